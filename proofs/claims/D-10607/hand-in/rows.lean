section
/-- the least thing from x on when c is the only one allowed (8: none) -/
def lj_f (c x : Nat) : Nat := if x ≤ c then c else 8
theorem lj_f_hit {c x : Nat} (h : x ≤ c) : lj_f c x = c := if_pos h
theorem lj_f_miss {c x : Nat} (h : c < x) : lj_f c x = 8 := if_neg (by omega)
theorem lj_f_8 {c : Nat} (h : c ≤ 8) : lj_f c 8 = 8 := by
  unfold lj_f
  split <;> omega
theorem lj_f_le {c x : Nat} (h : c ≤ 8) : lj_f c x ≤ 8 := by
  unfold lj_f
  split <;> omega
theorem lj_f_step {c x : Nat} (h : x ≠ c) : lj_f c (x + 1) = lj_f c x := by
  unfold lj_f
  split <;> split <;> omega
/-- a leap that got further and is not at its end stands at c -/
theorem lj_f_at {c x : Nat} (h : lj_f c x < 8) : lj_f c x = c := by
  unfold lj_f at h ⊢
  split
  · rfl
  · rename_i g
    rw [if_neg g] at h
    omega
/-! bits -/
theorem lj_bit0 : ∀ y, y < 8 → ((0 : Int32) >>> (nI y &&& 31)) &&& 1 = 0 := by decide +kernel
theorem lj_bit2 : ∀ b, b < 8 → ∀ y, y < 8 → ((nI (2 ^ b) >>> (nI y &&& 31)) &&& 1 = 0 ↔ y ≠ b) := by decide +kernel
theorem lj_on : ∀ y, y < 8 → ((0 : Int32) ||| ((1 : Int32) <<< (nI y &&& 31))).toInt16.toInt32 = nI (2 ^ y) := by decide +kernel
theorem lj_off : ∀ y, y < 8 → (nI (2 ^ y) &&& (((1 : Int32) <<< (nI y &&& 31)) ^^^ (-1))).toInt16.toInt32 = 0 := by decide +kernel
theorem lj_p0 : ∀ y, y < 8 → ¬ nI (2 ^ y) = 0 := by decide +kernel
theorem lj_byte : ∀ t, t < 16 → (nI t).toInt8.toInt32 = nI t := by decide +kernel
/-! the relation's arrays, and the one thing that a variable may be -/
def lj_A (o : Bool) (p q : Nat) (a1 a2 : Nat → Int32) : Prop := ∀ j, j < 24 → a1 j = (if o = true ∧ j = p then nI (2 ^ q) else 0) ∧ a2 j = (if o = true ∧ j = q then nI (2 ^ p) else 0)
def lj_c (o : Bool) (r p q v w d : Nat) : Nat := if d = v ∨ d = w then (if o = true ∧ r = 0 ∧ (v ≠ w ∨ p = q) then (if d = v then p else q) else 8) else 0
theorem lj_c_v {o : Bool} {r p q v w : Nat} (h : o = true ∧ r = 0 ∧ (v ≠ w ∨ p = q)) : lj_c o r p q v w v = p := by
  unfold lj_c
  rw [if_pos (Or.inl rfl), if_pos h, if_pos rfl]
theorem lj_c_w {o : Bool} {r p q v w : Nat} (h : o = true ∧ r = 0 ∧ (v ≠ w ∨ p = q)) : lj_c o r p q v w w = q := by
  unfold lj_c
  rw [if_pos (Or.inr rfl), if_pos h]
  split
  · rename_i e
    rcases h.2.2 with g | g
    · exact absurd e.symm g
    · exact g
  · rfl
theorem lj_c_8 {o : Bool} {r p q v w d : Nat} (h : ¬ (o = true ∧ r = 0 ∧ (v ≠ w ∨ p = q))) (hd : d = v ∨ d = w) : lj_c o r p q v w d = 8 := by
  unfold lj_c
  rw [if_pos hd, if_neg h]
theorem lj_c_0 {o : Bool} {r p q v w d : Nat} (hd : ¬ (d = v ∨ d = w)) : lj_c o r p q v w d = 0 := by
  unfold lj_c
  rw [if_neg hd]
theorem lj_c_le {o : Bool} {r p q v w d : Nat} (hp : p < 8) (hq : q < 8) : lj_c o r p q v w d ≤ 8 := by
  unfold lj_c
  split
  · split
    · split <;> omega
    · omega
  · omega
theorem lj_a1 {o : Bool} {p q r y : Nat} {a1 a2 : Nat → Int32} (h : lj_A o p q a1 a2) (hr : r < 3) (hy : y < 8) (hp : p < 8) : a1 (r * 8 + y) = if o = true ∧ r = 0 ∧ y = p then nI (2 ^ q) else 0 := by
  rw [(h (r * 8 + y) (by omega)).1]
  by_cases z : o = true ∧ r = 0 ∧ y = p
  · rw [if_pos z, if_pos ⟨z.1, by omega⟩]
  · rw [if_neg z, if_neg (fun g => z ⟨g.1, by omega, by omega⟩)]
theorem lj_a2 {o : Bool} {p q r y : Nat} {a1 a2 : Nat → Int32} (h : lj_A o p q a1 a2) (hr : r < 3) (hy : y < 8) (hq : q < 8) : a2 (r * 8 + y) = if o = true ∧ r = 0 ∧ y = q then nI (2 ^ p) else 0 := by
  rw [(h (r * 8 + y) (by omega)).2]
  by_cases z : o = true ∧ r = 0 ∧ y = q
  · rw [if_pos z, if_pos ⟨z.1, by omega⟩]
  · rw [if_neg z, if_neg (fun g => z ⟨g.1, by omega, by omega⟩)]
/-! digits and codes -/
def lj_dg (low : Nat) : Nat → Nat
  | 0 => low / 512 % 8
  | 1 => low / 64 % 8
  | 2 => low / 8 % 8
  | _ => low % 8
def lj_code (c : Nat → Nat) : Nat := c 3 + 8 * c 2 + 64 * c 1 + 512 * c 0
def lj_ok (c : Nat → Nat) : Prop := ∀ d, d < 4 → c d < 8
def lj_T (c : Nat → Nat) (low d : Nat) : Prop := ∀ e, e < d → c e = lj_dg low e
def lj_G (c : Nat → Nat) (low d : Nat) : Prop := ∃ e, e < d ∧ lj_dg low e < c e ∧ ∀ e', e' < e → c e' = lj_dg low e'
theorem lj_dg_lt (low d : Nat) : lj_dg low d < 8 := by
  unfold lj_dg
  split <;> omega
theorem lj_low {low : Nat} (h : low < 4096) : low = lj_dg low 3 + 8 * lj_dg low 2 + 64 * lj_dg low 1 + 512 * lj_dg low 0 := by
  show low = low % 8 + 8 * (low / 8 % 8) + 64 * (low / 64 % 8) + 512 * (low / 512 % 8)
  omega
theorem lj_code_lt {c : Nat → Nat} (h : lj_ok c) : lj_code c < 4096 := by
  have h0 := h 0 (by omega)
  have h1 := h 1 (by omega)
  have h2 := h 2 (by omega)
  have h3 := h 3 (by omega)
  unfold lj_code
  omega
theorem lj_4 {d : Nat} (h : d < 4) : d = 0 ∨ d = 1 ∨ d = 2 ∨ d = 3 := by omega
theorem lj_ge {c : Nat → Nat} {low : Nat} (h : lj_ok c) (hl : low < 4096) (g : lj_T c low 4 ∨ lj_G c low 4) : low ≤ lj_code c := by
  have h0 := h 0 (by omega)
  have h1 := h 1 (by omega)
  have h2 := h 2 (by omega)
  have h3 := h 3 (by omega)
  have e := lj_low hl
  have d0 := lj_dg_lt low 0
  have d1 := lj_dg_lt low 1
  have d2 := lj_dg_lt low 2
  have d3 := lj_dg_lt low 3
  unfold lj_code
  rcases g with t | ⟨i, hi, hg, hb⟩
  · have t0 := t 0 (by omega)
    have t1 := t 1 (by omega)
    have t2 := t 2 (by omega)
    have t3 := t 3 (by omega)
    omega
  · rcases lj_4 hi with rfl | rfl | rfl | rfl
    · omega
    · have t0 := hb 0 (by omega)
      omega
    · have t0 := hb 0 (by omega)
      have t1 := hb 1 (by omega)
      omega
    · have t0 := hb 0 (by omega)
      have t1 := hb 1 (by omega)
      have t2 := hb 2 (by omega)
      omega
theorem lj_lt {c : Nat → Nat} {low d : Nat} (h : lj_ok c) (hl : low < 4096) (hd : d < 4) (t : lj_T c low d) (g : c d < lj_dg low d) : lj_code c < low := by
  have h0 := h 0 (by omega)
  have h1 := h 1 (by omega)
  have h2 := h 2 (by omega)
  have h3 := h 3 (by omega)
  have e := lj_low hl
  unfold lj_code
  rcases lj_4 hd with rfl | rfl | rfl | rfl
  · omega
  · have t0 := t 0 (by omega)
    omega
  · have t0 := t 0 (by omega)
    have t1 := t 1 (by omega)
    omega
  · have t0 := t 0 (by omega)
    have t1 := t 1 (by omega)
    have t2 := t 2 (by omega)
    omega
theorem lj_T_s {c : Nat → Nat} {low d : Nat} (h : ∀ e, e ≤ d → c e = lj_dg low e) : lj_T c low (d + 1) := fun e he => h e (by omega)
theorem lj_G_s {c : Nat → Nat} {low d l : Nat} (h : lj_T c low d ∧ l = lj_dg low d ∨ lj_G c low d ∧ l = 0) (hl : l ≤ c d) (hn : ¬ ∀ e, e ≤ d → c e = lj_dg low e) : lj_G c low (d + 1) := by
  rcases h with ⟨t, e⟩ | ⟨⟨i, hi, hg, hb⟩, _⟩
  · refine ⟨d, by omega, ?_, t⟩
    rcases Nat.lt_or_ge (lj_dg low d) (c d) with z | z
    · exact z
    · refine absurd (fun i hi => ?_) hn
      by_cases ei : i = d
      · rw [ei]
        omega
      · exact t i (by omega)
  · exact ⟨i, by omega, hg, hb⟩
/-! the answer -/
def lj_V (c : Nat → Nat) (A : Int32) : Prop := (lj_ok c → A = nI (lj_code c)) ∧ (¬ lj_ok c → A = -1)
end
section
theorem lj_in {post : Int32 → Prop} {s : Int32} {y : Nat} {P : Prop} (h : (s >>> (nI y &&& 31)) &&& 1 = 0 ↔ ¬ P) (h1 : P → post 1) (h0 : ¬ P → post 0) : wpX_in post () s (nI y) :=
  br_c (fun z => h0 (h.mp z)) (fun z => h1 (Classical.byContradiction (fun g => z (h.mpr g))))
theorem lj_fromW {post : Int32 → Prop} {s : Int32} {c : Nat} (hc : c ≤ 8) (hs : ∀ y, y < 8 → ((s >>> (nI y &&& 31)) &&& 1 = 0 ↔ y ≠ c)) : ∀ n x, x ≤ 8 → 8 - x < n → post (nI (lj_f c x)) → wX_from_2 post s n (nI x) := by
  intro n
  induction n with
  | zero => intro x _ h; exact absurd h (by omega)
  | succ n ih =>
    intro x hx hn hp
    refine pk_le 8 x (fun h => ?_) (fun h => lj_in (P := x = c) (hs x h) (fun e => br_f (by decide) ?_) (fun e => br_t rfl (nm_r (nI_1 x) (ih (x + 1) (by omega) (by omega) ?_))))
    · have e : x = 8 := by omega
      rw [e, lj_f_8 hc] at hp
      exact hp
    · rw [lj_f_hit (by omega), ← e] at hp
      exact hp
    · rw [lj_f_step e]
      exact hp
theorem lj_from {post : Int32 → Prop} {s : Int32} {c x : Nat} (hc : c ≤ 8) (hx : x ≤ 8) (hs : ∀ y, y < 8 → ((s >>> (nI y &&& 31)) &&& 1 = 0 ↔ y ≠ c)) (hp : post (nI (lj_f c x))) : wpX_from post () s (nI x) :=
  ⟨9, lj_fromW hc hs 9 x hx (by omega) hp⟩
section
variable {post : Int32 → Prop} {s0 : Int32} {a1 a2 a3 a4 a5 a6 a7 : Nat → Int32}
theorem lj_diagW {b c : Nat} (hb : b ≤ 16) (hc : c ≤ 8) (hs : ∀ y, y < 8 → ((a1 (b + y) >>> (nI y &&& 31)) &&& 1 = 0 ↔ y ≠ c)) : ∀ n x, x ≤ 8 → 8 - x < n → post (nI (lj_f c x)) → wX_nextOnDiagonal_2 post (nI b) s0 a1 a2 a3 a4 a5 a6 a7 n (nI x) := by
  intro n
  induction n with
  | zero => intro x _ h; exact absurd h (by omega)
  | succ n ih =>
    intro x hx hn hp
    refine pk_le 8 x (fun h => ?_) (fun h => ⟨pk_in (b + x) 24 (by omega) (nI_add b x), ?_⟩)
    · have e : x = 8 := by omega
      rw [e, lj_f_8 hc] at hp
      rw [e]
      exact hp
    · rw [pk_cl (b + x) (nI_add b x)]
      refine lj_in (P := x = c) (hs x h) (fun e => br_f (by decide) ?_) (fun e => br_t rfl (nm_r (nI_1 x) (ih (x + 1) (by omega) (by omega) ?_)))
      · rw [lj_f_hit (by omega), ← e] at hp
        exact hp
      · rw [lj_f_step e]
        exact hp
theorem lj_diag {b c x : Nat} (hb : b ≤ 16) (hc : c ≤ 8) (hx : x ≤ 8) (hs : ∀ y, y < 8 → ((a1 (b + y) >>> (nI y &&& 31)) &&& 1 = 0 ↔ y ≠ c)) (hp : post (nI (lj_f c x))) : wpX_nextOnDiagonal post (s0, a1, a2, a3, a4, a5, a6, a7) (nI b) (nI x) :=
  ⟨9, lj_diagW hb hc hs 9 x hx (by omega) hp⟩
theorem lj_anyW {b c : Nat} {fl : Int32} (hb : b ≤ 16) (hc : c ≤ 8) (hs : ∀ y, y < 8 → ((fl = 0 → (a2 (b + y) = 0 ↔ y ≠ c)) ∧ (¬ fl = 0 → (a1 (b + y) = 0 ↔ y ≠ c)))) : ∀ n x, x ≤ 8 → 8 - x < n → post (nI (lj_f c x)) → wX_nextWithAny_3 post (nI b) fl s0 a1 a2 a3 a4 a5 a6 a7 n (nI x) := by
  intro n
  induction n with
  | zero => intro x _ h; exact absurd h (by omega)
  | succ n ih =>
    intro x hx hn hp
    have st : ∀ z : Int32, x < 8 → (z = 0 ↔ x ≠ c) → wX_nextWithAny_35 post (wX_nextWithAny_3 post (nI b) fl s0 a1 a2 a3 a4 a5 a6 a7 n) (nI b) fl (nI x) z s0 a1 a2 a3 a4 a5 a6 a7 := by
      intro z h hz
      refine br_c (fun g => nm_r (nI_1 x) (ih (x + 1) (by omega) (by omega) ?_)) (fun g => ?_)
      · rw [lj_f_step (hz.mp g)]
        exact hp
      · have e : x = c := Classical.byContradiction (fun k => g (hz.mpr k))
        rw [lj_f_hit (by omega), ← e] at hp
        exact hp
    refine pk_le 8 x (fun h => ?_) (fun h => br_c (fun g => ⟨pk_in (b + x) 24 (by omega) (nI_add b x), ?_⟩) (fun g => ⟨pk_in (b + x) 24 (by omega) (nI_add b x), ?_⟩))
    · have e : x = 8 := by omega
      rw [e, lj_f_8 hc] at hp
      rw [e]
      exact hp
    · rw [pk_cl (b + x) (nI_add b x)]
      exact st _ h ((hs x h).1 g)
    · rw [pk_cl (b + x) (nI_add b x)]
      exact st _ h ((hs x h).2 g)
theorem lj_any {b c x : Nat} {fl : Int32} (hb : b ≤ 16) (hc : c ≤ 8) (hx : x ≤ 8) (hs : ∀ y, y < 8 → ((fl = 0 → (a2 (b + y) = 0 ↔ y ≠ c)) ∧ (¬ fl = 0 → (a1 (b + y) = 0 ↔ y ≠ c)))) (hp : post (nI (lj_f c x))) : wpX_nextWithAny post (s0, a1, a2, a3, a4, a5, a6, a7) (nI b) (nI x) fl :=
  ⟨9, lj_anyW hb hc hs 9 x hx (by omega) hp⟩
/-! what the arrays say, bit by bit -/
theorem lj_sDiag {o : Bool} {r p q v : Nat} (hA : lj_A o p q a1 a2) (hr : r < 3) (hp : p < 8) (hq : q < 8) : ∀ y, y < 8 → ((a1 (r * 8 + y) >>> (nI y &&& 31)) &&& 1 = 0 ↔ y ≠ lj_c o r p q v v v) := by
  intro y hy
  rw [lj_a1 hA hr hy hp]
  by_cases z : o = true ∧ r = 0 ∧ y = p
  · rw [if_pos z]
    refine (lj_bit2 q hq y hy).trans ?_
    by_cases e : p = q
    · rw [lj_c_v ⟨z.1, z.2.1, Or.inr e⟩, e]
    · rw [lj_c_8 (fun g => g.2.2.elim (fun k => k rfl) e) (Or.inl rfl)]
      exact ⟨fun _ => by omega, fun _ k => e (by omega)⟩
  · rw [if_neg z]
    refine ⟨fun _ k => ?_, fun _ => lj_bit0 y hy⟩
    by_cases g : o = true ∧ r = 0 ∧ (v ≠ v ∨ p = q)
    · rw [lj_c_v g] at k
      exact z ⟨g.1, g.2.1, k⟩
    · rw [lj_c_8 g (Or.inl rfl)] at k
      omega
theorem lj_s1 {o : Bool} {r p q v w : Nat} (hA : lj_A o p q a1 a2) (hr : r < 3) (hp : p < 8) (hq : q < 8) (hvw : v ≠ w) : ∀ y, y < 8 → (a1 (r * 8 + y) = 0 ↔ y ≠ lj_c o r p q v w v) := by
  intro y hy
  rw [lj_a1 hA hr hy hp]
  by_cases z : o = true ∧ r = 0 ∧ y = p
  · rw [if_pos z, lj_c_v ⟨z.1, z.2.1, Or.inl hvw⟩]
    exact ⟨fun k => absurd k (lj_p0 q hq), fun k => absurd z.2.2 k⟩
  · rw [if_neg z]
    refine ⟨fun _ k => ?_, fun _ => rfl⟩
    by_cases g : o = true ∧ r = 0 ∧ (v ≠ w ∨ p = q)
    · rw [lj_c_v g] at k
      exact z ⟨g.1, g.2.1, k⟩
    · rw [lj_c_8 g (Or.inl rfl)] at k
      omega
theorem lj_s2 {o : Bool} {r p q v w : Nat} (hA : lj_A o p q a1 a2) (hr : r < 3) (hp : p < 8) (hq : q < 8) (hvw : v ≠ w) : ∀ y, y < 8 → (a2 (r * 8 + y) = 0 ↔ y ≠ lj_c o r p q v w w) := by
  intro y hy
  rw [lj_a2 hA hr hy hq]
  by_cases z : o = true ∧ r = 0 ∧ y = q
  · rw [if_pos z, lj_c_w ⟨z.1, z.2.1, Or.inl hvw⟩]
    exact ⟨fun k => absurd k (lj_p0 p hp), fun k => absurd z.2.2 k⟩
  · rw [if_neg z]
    refine ⟨fun _ k => ?_, fun _ => rfl⟩
    by_cases g : o = true ∧ r = 0 ∧ (v ≠ w ∨ p = q)
    · rw [lj_c_w g] at k
      exact z ⟨g.1, g.2.1, k⟩
    · rw [lj_c_8 g (Or.inr rfl)] at k
      omega
theorem lj_hit {o : Bool} {r p q v w d : Nat} (hd : d = v ∨ d = w) (h : lj_c o r p q v w d < 8) : o = true ∧ r = 0 ∧ (v ≠ w ∨ p = q) :=
  Classical.byContradiction (fun g => by rw [lj_c_8 g hd] at h; omega)
theorem lj_allowed {o : Bool} {r p q v w d x : Nat} (hA : lj_A o p q a1 a2) (hr : r < 3) (hp : p < 8) (hq : q < 8) (hv : v < 4) (hw : w < 4) (h3 : a3 0 = nI r) (h4 : a4 0 = nI v) (h5 : a5 0 = nI w) (hd : d = v ∨ d = w) (hx : x ≤ 8) (h6 : ∀ e, e < d → a6 e = nI (lj_c o r p q v w e) ∧ lj_c o r p q v w e < 8) (hpost : post (nI (lj_f (lj_c o r p q v w d) x))) : wpX_allowedFrom post (s0, a1, a2, a3, a4, a5, a6, a7) 0 (nI d) (nI x) := by
  have hd4 : d < 4 := by omega
  have e3 : a3 (0 : Int32).toNatClampNeg * 8 = nI (r * 8) := by
    rw [sb_cl0, h3]
    exact pk_mul r 8
  have e4 : a4 (0 : Int32).toNatClampNeg = nI v := by rw [sb_cl0, h4]
  have e5 : a5 (0 : Int32).toNatClampNeg = nI w := by rw [sb_cl0, h5]
  have hc : lj_c o r p q v w d ≤ 8 := lj_c_le hp hq
  have Q : ¬ (v = d ∧ w = d) → wX_allowedFrom_47 post (nI d) (nI x) (nI (r * 8)) (nI v) (nI w) s0 a1 a2 a3 a4 a5 a6 a7 := by
    intro hn
    have hvw : v ≠ w := fun e => hn (by omega)
    refine pk_eq v d (fun ev => pk_le d w (fun hdw => ?_) (fun hdw => ?_)) (fun ev => pk_le d v (fun hdv => ?_) (fun hdv => ?_))
    · subst ev
      exact lj_any (by omega) hc hx (fun y hy => ⟨fun z => absurd z (by decide), fun _ => lj_s1 hA hr hp hq hvw y hy⟩) hpost
    · subst ev
      have k := h6 w hdw
      have g := lj_hit (Or.inr rfl) k.2
      rw [lj_c_w g] at k
      rw [nI_clamp (show w < 2 ^ 31 by omega), k.1]
      refine ⟨pk_in w 4 hw, pk_in (r * 8 + q) 24 (by omega) (nI_add (r * 8) q), ?_⟩
      rw [pk_cl (r * 8 + q) (nI_add (r * 8) q), lj_a2 hA hr hq hq, if_pos ⟨g.1, g.2.1, rfl⟩]
      refine lj_from hc hx (fun y hy => ?_) hpost
      rw [lj_c_v g]
      exact lj_bit2 p hp y hy
    · have ew : d = w := by omega
      subst ew
      exact lj_any (by omega) hc hx (fun y hy => ⟨fun _ => lj_s2 hA hr hp hq hvw y hy, fun z => absurd rfl z⟩) hpost
    · have ew : d = w := by omega
      subst ew
      have k := h6 v hdv
      have g := lj_hit (Or.inl rfl) k.2
      rw [lj_c_v g] at k
      rw [nI_clamp (show v < 2 ^ 31 by omega), k.1]
      refine ⟨pk_in v 4 hv, pk_in (r * 8 + p) 24 (by omega) (nI_add (r * 8) p), ?_⟩
      rw [pk_cl (r * 8 + p) (nI_add (r * 8) p), lj_a1 hA hr hp hp, if_pos ⟨g.1, g.2.1, rfl⟩]
      refine lj_from hc hx (fun y hy => ?_) hpost
      rw [lj_c_w g]
      exact lj_bit2 q hq y hy
  refine ⟨pk_in 0 5 (by omega), nm_r e3 ⟨pk_in 0 5 (by omega), nm_r e4 ⟨pk_in 0 5 (by omega), nm_r e5 (pk_eq v d (fun ev => pk_eq w d (fun ew => ?_) (fun ew => Q (fun z => ew z.2))) (fun ev => Q (fun z => ev z.1)))⟩⟩⟩
  subst ev
  subst ew
  exact lj_diag (by omega) hc hx (lj_sDiag hA hr hp hq) hpost
theorem lj_has {v w d : Nat} (h4 : a4 0 = nI v) (h5 : a5 0 = nI w) (hv : v < 4) (hw : w < 4) (hd : d < 4) (h1 : d = v ∨ d = w → post 1) (h0 : ¬ (d = v ∨ d = w) → post 0) : wpX_has post (s0, a1, a2, a3, a4, a5, a6, a7) 0 (nI d) := by
  have e4 : a4 (0 : Int32).toNatClampNeg = nI v := by rw [sb_cl0, h4]
  have e5 : a5 (0 : Int32).toNatClampNeg = nI w := by rw [sb_cl0, h5]
  exact ⟨pk_in 0 5 (by omega), pk_eq v d (fun e => h1 (Or.inl e.symm)) (fun e => ⟨pk_in 0 5 (by omega), pk_eq w d (fun f => h1 (Or.inr f.symm)) (fun f => h0 (by omega)) e5⟩) e4⟩
/-! leap: no atom; one atom -/
theorem lj_leap0 {d x : Nat} (hx : x ≤ 8) (hp : post (nI (lj_f 0 x))) : wpX_leap post (0, a1, a2, a3, a4, a5, a6, a7) (nI d) (nI x) := by
  have h0 : x = 0 → post (nI x) := fun e => by
    rw [e] at hp ⊢
    exact hp
  have h8 : x ≠ 0 → post 8 := fun e => by
    rw [lj_f_miss (by omega)] at hp
    exact hp
  refine ⟨2, br_f (by decide) (br_f (by decide) (pk_le 8 x (fun h => br_t rfl (pk_eq x 0 h0 h8)) (fun h => ⟨1, br_t (by decide) (nm_e ?_)⟩)))⟩
  exact br_f (by decide) (br_t rfl (br_t rfl (pk_eq x 0 h0 h8)))
theorem lj_leap1 {v w c d x : Nat} (h4 : a4 0 = nI v) (h5 : a5 0 = nI w) (hv : v < 4) (hw : w < 4) (hd : d < 4) (hc : c ≤ 8) (hx : x ≤ 8) (hout : ¬ (d = v ∨ d = w) → c = 0)
    (hA : (d = v ∨ d = w) → ∀ (x : Nat) (post : Int32 → Prop), x ≤ 8 → post (nI (lj_f c x)) → wpX_allowedFrom post (1, a1, a2, a3, a4, a5, a6, a7) 0 (nI d) (nI x))
    (hp : post (nI (lj_f c x))) : wpX_leap post (1, a1, a2, a3, a4, a5, a6, a7) (nI d) (nI x) := by
  have hz : lj_f c x ≤ 8 := lj_f_le hc
  refine ⟨3, br_f (by decide) (br_f (by decide) (pk_le 8 x (fun h => br_t rfl (br_f ?_ ?_)) (fun h => ⟨2, br_f (by decide) (pk_le 8 x (fun g => absurd g (by omega)) (fun _ => lj_has h4 h5 hv hw hd (fun hi => br_f (by decide) (hA hi x _ hx ?_)) (fun ho => br_t rfl (nm_e ?_))))⟩)))⟩
  · exact nI_ne0 (by omega) (by omega)
  · have e : x = 8 := by omega
    rw [e, lj_f_8 hc] at hp
    exact hp
  · refine pk_le (lj_f c x) x (fun g => nm_e (nm_e (br_t (by decide) (nm_e (br_f (by decide) (br_t (by decide) (br_f (by decide) hp))))))) (fun g => nm_e (nm_e (br_t (by decide) (nm_e ?_))))
    refine br_f (by decide) (br_f (by decide) (pk_le 8 (lj_f c x) (fun _ => br_f (by decide) hp) (fun k => ⟨2, br_f (by decide) (pk_le 8 (lj_f c x) (fun g => absurd g (by omega)) (fun _ => lj_has h4 h5 hv hw hd (fun _ => br_f (by decide) (hA hi (lj_f c x) _ hz ?_)) (fun ho => absurd hi ho)))⟩)))
    have e : lj_f c (lj_f c x) = lj_f c x := by
      rw [lj_f_at k]
      exact lj_f_hit (Nat.le_refl c)
    rw [e]
    exact pk_le (lj_f c x) (lj_f c x) (fun g => nm_e (nm_e (br_t (by decide) (nm_e (br_f (by decide) (br_t (by decide) (br_f (by decide) hp))))))) (fun g => absurd g (by omega))
  · have e := hout ho
    rw [e] at hp
    refine br_t (by decide) (nm_e (br_f (by decide) (br_t (by decide) (br_t rfl (pk_eq x 0 (fun g => ?_) (fun g => ?_))))))
    · rw [g] at hp ⊢
      exact hp
    · rw [lj_f_miss (by omega)] at hp
      exact hp
end
/-- leap answers by c, whatever thing and least hold (the things ahead of d are c's) -/
def lj_L (c : Nat → Nat) (s0 : Int32) (a1 a2 a3 a4 a5 : Nat → Int32) : Prop := (∀ d, d < 4 → c d ≤ 8) ∧ ∀ (a6 a7 : Nat → Int32) (d x : Nat) (post : Int32 → Prop), d < 4 → x ≤ 8 → (∀ e, e < d → a6 e = nI (c e) ∧ c e < 8) → post (nI (lj_f (c d) x)) → wpX_leap post (s0, a1, a2, a3, a4, a5, a6, a7) (nI d) (nI x)
theorem lj_L0 {a1 a2 a3 a4 a5 : Nat → Int32} : lj_L (fun _ => 0) 0 a1 a2 a3 a4 a5 :=
  ⟨fun _ _ => Nat.zero_le 8, fun a6 a7 d x post hd hx h6 hp => lj_leap0 hx hp⟩
theorem lj_L1 {o : Bool} {r p q v w : Nat} {a1 a2 a3 a4 a5 : Nat → Int32} (hA : lj_A o p q a1 a2) (hr : r < 3) (hp : p < 8) (hq : q < 8) (hv : v < 4) (hw : w < 4) (h3 : a3 0 = nI r) (h4 : a4 0 = nI v) (h5 : a5 0 = nI w) : lj_L (lj_c o r p q v w) 1 a1 a2 a3 a4 a5 :=
  ⟨fun _ _ => lj_c_le hp hq, fun a6 a7 d x post hd hx h6 hpost => lj_leap1 h4 h5 hv hw hd (lj_c_le hp hq) hx (fun ho => lj_c_0 ho) (fun hi y post' hy hpost' => lj_allowed hA hr hp hq hv hw h3 h4 h5 hi hy h6 hpost') hpost⟩
end
section
theorem lj_digit {post : Int32 → Prop} {low d : Nat} (hl : low < 4096) (hd : d < 4) (hp : post (nI (lj_dg low d))) : wpX_digit post () (nI low) (nI d) := by
  have e : (nI low >>> ((9 - (3 * nI d)) &&& 31)) &&& 7 = nI (lj_dg low d) := by
    rcases lj_4 hd with rfl | rfl | rfl | rfl
    · rw [pk_shrN (by omega) _ 9 (by decide), pk_andN (by omega) 3 (by decide)]
      rfl
    · rw [pk_shrN (by omega) _ 6 (by decide), pk_andN (by omega) 3 (by decide)]
      rfl
    · rw [pk_shrN (by omega) _ 3 (by decide), pk_andN (by omega) 3 (by decide)]
      rfl
    · rw [pk_shrN (by omega) _ 0 (by decide), pk_andN (by omega) 3 (by decide), Nat.pow_zero, Nat.div_one]
      rfl
  unfold wpX_digit
  rw [e]
  exact hp
section
variable {post : Int32 → St2 → Prop} {s0 : Int32} {a1 a2 a3 a4 a5 : Nat → Int32} {c : Nat → Nat} {low : Nat}
theorem lj_tight {ps : Int32 → Prop} {a6 a7 : Nat → Int32} {d : Nat} (hl : low < 4096) (hd : d < 4) (h6 : ∀ e, e ≤ d → a6 e = nI (c e) ∧ c e < 8) (h1 : (∀ e, e ≤ d → c e = lj_dg low e) → ps 1) (h0 : ¬ (∀ e, e ≤ d → c e = lj_dg low e) → ps 0) : wpX_tightUpTo ps (s0, a1, a2, a3, a4, a5, a6, a7) (nI low) (nI d) := by
  have W : ∀ n e, e ≤ d + 1 → d + 1 - e < n → (∀ i, i < e → c i = lj_dg low i) → wX_tightUpTo_2 ps (nI low) (nI d) s0 a1 a2 a3 a4 a5 a6 a7 n (nI e) := by
    intro n
    induction n with
    | zero => intro e _ h; exact absurd h (by omega)
    | succ n ih =>
      intro e he hn hb
      refine pk_lt d e (fun h => h1 (fun i hi => hb i (by omega))) (fun h => ⟨pk_in e 4 (by omega), lj_digit hl (by omega) ?_⟩)
      have k := h6 e h
      have g := lj_dg_lt low e
      rw [nI_clamp (show e < 2 ^ 31 by omega), k.1]
      refine pk_eq (c e) (lj_dg low e) (fun z => nm_r (nI_1 e) (ih (e + 1) (by omega) (by omega) (fun i hi => ?_))) (fun z => h0 (fun f => z (f e h))) rfl rfl (by omega) (by omega)
      by_cases ei : i = e
      · rw [ei]
        exact z
      · exact hb i (by omega)
  exact ⟨d + 2, W (d + 2) 0 (by omega) (by omega) (fun i hi => absurd hi (by omega))⟩
/-- back from d to the start: no further answer -/
theorem lj_back {x2 : Int32} {a6 : Nat → Int32} (hL : lj_L c s0 a1 a2 a3 a4 a5) (H : ∀ a7', post (-1) (s0, a1, a2, a3, a4, a5, a6, a7')) : ∀ (d k n : Nat) (a7 : Nat → Int32), d < 4 → d + 1 ≤ n → k + d < 16384 → (∀ e, e ≤ d → c e < 8) → (∀ e, e < d → a6 e = nI (c e)) → a7 d = nI (c d + 1) → wX_nextFrom_36 post x2 s0 n (nI d) (nI k) a1 a2 a3 a4 a5 a6 a7 := by
  intro d
  induction d with
  | zero =>
    intro k n a7 hd hn hk hc h6 h7
    obtain ⟨m, rfl⟩ : ∃ m, n = m + 1 := ⟨n - 1, by omega⟩
    have hc0 := hc 0 (by omega)
    refine pk_le 16384 k (fun h => absurd h (by omega)) (fun _ => ⟨pk_in 0 4 (by omega), ?_⟩)
    rw [nI_clamp (show 0 < 2 ^ 31 by omega), h7]
    refine hL.2 a6 a7 0 (c 0 + 1) _ (by omega) (by omega) (fun e he => absurd he (by omega)) ?_
    rw [lj_f_miss (by omega)]
    exact pk_le 8 8 (fun _ => nm_r (show nI 0 + (-1) = -1 from by decide) (br_f (by decide) (H a7))) (fun h => absurd h (by omega))
  | succ d ih =>
    intro k n a7 hd hn hk hc h6 h7
    obtain ⟨m, rfl⟩ : ∃ m, n = m + 1 := ⟨n - 1, by omega⟩
    have hc0 := hc (d + 1) (by omega)
    have hc1 := hc d (by omega)
    refine pk_le 16384 k (fun h => absurd h (by omega)) (fun _ => ⟨pk_in (d + 1) 4 (by omega), ?_⟩)
    rw [nI_clamp (show d + 1 < 2 ^ 31 by omega), h7]
    refine hL.2 a6 a7 (d + 1) (c (d + 1) + 1) _ (by omega) (by omega) (fun e he => ⟨h6 e he, hc e (by omega)⟩) ?_
    rw [lj_f_miss (by omega)]
    have e7 : upd a7 (nI d).toNatClampNeg ((a6 (nI d).toNatClampNeg + 1).toInt8.toInt32) = upd a7 d (nI (c d + 1)) := by
      rw [nI_clamp (show d < 2 ^ 31 by omega), h6 d (by omega), nI_1, lj_byte _ (by omega)]
    exact pk_le 8 8 (fun _ => nm_r (pk_m1 d) (br_t (nI_pos' (by omega)) ⟨pk_in d 4 (by omega), pk_in d 4 (by omega), nm_r e7 (nm_r (nI_1 k) (ih (k + 1) m _ (by omega) (by omega) (by omega) (fun e he => hc e (by omega)) (fun e he => h6 e (by omega)) pk_us))⟩)) (fun h => absurd h (by omega))
/-- one step forward at d -/
theorem lj_step (hL : lj_L c s0 a1 a2 a3 a4 a5) (hl : low < 4096)
    (H1 : lj_ok c → low ≤ lj_code c → ∀ a6' a7', post (nI (lj_code c)) (s0, a1, a2, a3, a4, a5, a6', a7'))
    (H0 : ¬ (lj_ok c ∧ low ≤ lj_code c) → ∀ a6' a7', post (-1) (s0, a1, a2, a3, a4, a5, a6', a7'))
    {d k n l : Nat} {a6 a7 : Nat → Int32} (hd : d < 4) (hn : 4 ≤ n) (hk : k < 100)
    (h6 : ∀ e, e < d → a6 e = nI (c e) ∧ c e < 8) (h7 : a7 d = nI l) (hs : lj_T c low d ∧ l = lj_dg low d ∨ lj_G c low d ∧ l = 0)
    (IH : d + 1 < 4 → ∀ (l' : Nat) (a6' a7' : Nat → Int32), (∀ e, e < d + 1 → a6' e = nI (c e) ∧ c e < 8) → a7' (d + 1) = nI l' → (lj_T c low (d + 1) ∧ l' = lj_dg low (d + 1) ∨ lj_G c low (d + 1) ∧ l' = 0) → wX_nextFrom_36 post (nI low) s0 n (nI (d + 1)) (nI (k + 1)) a1 a2 a3 a4 a5 a6' a7') :
    wX_nextFrom_36 post (nI low) s0 (n + 1) (nI d) (nI k) a1 a2 a3 a4 a5 a6 a7 := by
  have hcd := hL.1 d hd
  have hdg := lj_dg_lt low d
  have hl8 : l < 8 := by
    rcases hs with h | h <;> omega
  refine pk_le 16384 k (fun h => absurd h (by omega)) (fun _ => ⟨pk_in d 4 hd, ?_⟩)
  rw [nI_clamp (show d < 2 ^ 31 by omega), h7]
  refine hL.2 a6 a7 d l _ hd (by omega) h6 ?_
  by_cases hit : l ≤ c d ∧ c d < 8
  · rw [lj_f_hit hit.1]
    have e6 : upd a6 d (nI (c d)).toInt8.toInt32 = upd a6 d (nI (c d)) := by rw [lj_byte _ (by omega)]
    have h6' : ∀ e, e ≤ d → upd a6 d (nI (c d)) e = nI (c e) ∧ c e < 8 := by
      intro e he
      by_cases ed : e = d
      · rw [ed, pk_us]
        exact ⟨rfl, hit.2⟩
      · rw [pk_un ed]
        exact h6 e (by omega)
    have C : d + 1 = 4 → (lj_T c low (d + 1) ∨ lj_G c low (d + 1)) → wpX_code (fun r_29 => post r_29 (s0, a1, a2, a3, a4, a5, upd a6 d (nI (c d)), a7)) (s0, a1, a2, a3, a4, a5, upd a6 d (nI (c d)), a7) := by
      intro e4 hg
      rw [e4] at hg
      have ok : lj_ok c := fun i hi => (h6' i (by omega)).2
      have e : ((upd a6 d (nI (c d)) 3 + (8 * upd a6 d (nI (c d)) 2)) + (64 * upd a6 d (nI (c d)) 1)) + (512 * upd a6 d (nI (c d)) 0) = nI (lj_code c) := by
        rw [(h6' 3 (by omega)).1, (h6' 2 (by omega)).1, (h6' 1 (by omega)).1, (h6' 0 (by omega)).1]
        show nI (c 3) + nI 8 * nI (c 2) + nI 64 * nI (c 1) + nI 512 * nI (c 0) = nI (lj_code c)
        rw [pk_mul, pk_mul, pk_mul, nI_add, nI_add, nI_add]
        rfl
      have P := H1 ok (lj_ge ok hl hg) (upd a6 d (nI (c d))) a7
      rw [← e] at P
      exact P
    refine pk_le 8 (c d) (fun h => absurd h (by omega)) (fun _ => ⟨pk_in d 4 hd, nm_r e6 (lj_tight hl hd h6' (fun ht => nm_r (nI_1 d) (pk_eq (d + 1) 4 (fun e => C e (Or.inl (lj_T_s ht))) (fun e => ?_))) (fun ht => nm_r (nI_1 d) (pk_eq (d + 1) 4 (fun e => C e (Or.inr (lj_G_s hs hit.1 ht))) (fun e => ?_))))⟩)
    · have g := lj_dg_lt low (d + 1)
      have e7 : upd a7 (nI (d + 1)).toNatClampNeg (nI (lj_dg low (d + 1))).toInt8.toInt32 = upd a7 (d + 1) (nI (lj_dg low (d + 1))) := by
        rw [nI_clamp (show d + 1 < 2 ^ 31 by omega), lj_byte _ (by omega)]
      exact br_f (by decide) (lj_digit hl (by omega) ⟨pk_in (d + 1) 4 (by omega), nm_r e7 (nm_r (nI_1 k) (IH (by omega) _ _ _ (fun i hi => h6' i (by omega)) pk_us (Or.inl ⟨lj_T_s ht, rfl⟩)))⟩)
    · have e7 : upd a7 (nI (d + 1)).toNatClampNeg (0 : Int32).toInt8.toInt32 = upd a7 (d + 1) (nI 0) := by
        rw [nI_clamp (show d + 1 < 2 ^ 31 by omega)]
        rfl
      exact br_t rfl ⟨pk_in (d + 1) 4 (by omega), nm_r e7 (nm_r (nI_1 k) (IH (by omega) _ _ _ (fun i hi => h6' i (by omega)) pk_us (Or.inr ⟨lj_G_s hs hit.1 ht, rfl⟩)))⟩
  · have e8 : lj_f (c d) l = 8 := by
      by_cases g : l ≤ c d
      · rw [lj_f_hit g]
        have : ¬ c d < 8 := fun z => hit ⟨g, z⟩
        omega
      · exact lj_f_miss (by omega)
    have no : ¬ (lj_ok c ∧ low ≤ lj_code c) := by
      rintro ⟨ok, hle⟩
      have h8 := ok d hd
      have hlt : c d < l := Nat.lt_of_not_le (fun z => hit ⟨z, h8⟩)
      rcases hs with ⟨t, e⟩ | ⟨_, e⟩
      · rw [e] at hlt
        have := lj_lt ok hl hd t hlt
        omega
      · omega
    rw [e8]
    refine pk_le 8 8 (fun _ => ?_) (fun h => absurd h (by omega))
    by_cases d0 : d = 0
    · subst d0
      exact nm_r (show nI 0 + (-1) = -1 from by decide) (br_f (by decide) (H0 no a6 a7))
    · obtain ⟨i, rfl⟩ : ∃ i, d = i + 1 := ⟨d - 1, by omega⟩
      have hi := h6 i (by omega)
      have e7 : upd a7 (nI i).toNatClampNeg ((a6 (nI i).toNatClampNeg + 1).toInt8.toInt32) = upd a7 i (nI (c i + 1)) := by
        rw [nI_clamp (show i < 2 ^ 31 by omega), hi.1, nI_1, lj_byte _ (by omega)]
      exact nm_r (pk_m1 i) (br_t (nI_pos' (by omega)) ⟨pk_in i 4 (by omega), pk_in i 4 (by omega), nm_r e7 (nm_r (nI_1 k) (lj_back hL (fun a7' => H0 no a6 a7') i (k + 1) n _ (by omega) (by omega) (by omega) (fun e he => (h6 e (by omega)).2) (fun e he => (h6 e (by omega)).1) pk_us))⟩)
theorem lj_fwd (hL : lj_L c s0 a1 a2 a3 a4 a5) (hl : low < 4096)
    (H1 : lj_ok c → low ≤ lj_code c → ∀ a6' a7', post (nI (lj_code c)) (s0, a1, a2, a3, a4, a5, a6', a7'))
    (H0 : ¬ (lj_ok c ∧ low ≤ lj_code c) → ∀ a6' a7', post (-1) (s0, a1, a2, a3, a4, a5, a6', a7')) :
    ∀ (j d k n l : Nat) (a6 a7 : Nat → Int32), d + j = 3 → j + 5 ≤ n → k + j < 100 → (∀ e, e < d → a6 e = nI (c e) ∧ c e < 8) → a7 d = nI l → (lj_T c low d ∧ l = lj_dg low d ∨ lj_G c low d ∧ l = 0) → wX_nextFrom_36 post (nI low) s0 n (nI d) (nI k) a1 a2 a3 a4 a5 a6 a7 := by
  intro j
  induction j with
  | zero =>
    intro d k n l a6 a7 hd hn hk h6 h7 hs
    obtain ⟨m, rfl⟩ : ∃ m, n = m + 1 := ⟨n - 1, by omega⟩
    exact lj_step hL hl H1 H0 (by omega) (by omega) (by omega) h6 h7 hs (fun z => absurd z (by omega))
  | succ j ih =>
    intro d k n l a6 a7 hd hn hk h6 h7 hs
    obtain ⟨m, rfl⟩ : ∃ m, n = m + 1 := ⟨n - 1, by omega⟩
    exact lj_step hL hl H1 H0 (by omega) (by omega) (by omega) h6 h7 hs (fun _ l' a6' a7' g6 g7 gs => ih (d + 1) (k + 1) m l' a6' a7' (by omega) (by omega) (by omega) g6 g7 gs)
theorem lj_18 {a6 a7 : Nat → Int32} (hL : lj_L c s0 a1 a2 a3 a4 a5) (hl : low < 4096)
    (H1 : lj_ok c → low ≤ lj_code c → ∀ a6' a7', post (nI (lj_code c)) (s0, a1, a2, a3, a4, a5, a6', a7'))
    (H0 : ¬ (lj_ok c ∧ low ≤ lj_code c) → ∀ a6' a7', post (-1) (s0, a1, a2, a3, a4, a5, a6', a7')) : wX_nextFrom_18 post (nI low) s0 a1 a2 a3 a4 a5 a6 a7 := by
  have g := lj_dg_lt low 0
  have e7 : upd a7 0 (nI (lj_dg low 0)).toInt8.toInt32 = upd a7 0 (nI (lj_dg low 0)) := by rw [lj_byte _ (by omega)]
  exact lj_digit (d := 0) hl (by omega) (nm_r e7 ⟨8, lj_fwd hL hl H1 H0 3 0 0 8 (lj_dg low 0) a6 _ (by omega) (by omega) (by omega) (fun e he => absurd he (by omega)) pk_us (Or.inl ⟨fun e he => absurd he (by omega), rfl⟩)⟩)
theorem lj_next {n : Int32} {a6 a7 : Nat → Int32} (hL : lj_L c s0 a1 a2 a3 a4 a5)
    (H1 : lj_ok c → ¬ nI (lj_code c) < n → ∀ a6' a7', post (nI (lj_code c)) (s0, a1, a2, a3, a4, a5, a6', a7'))
    (H0 : ¬ (lj_ok c ∧ ¬ nI (lj_code c) < n) → ∀ a6' a7', post (-1) (s0, a1, a2, a3, a4, a5, a6', a7')) : wpX_nextFrom post (s0, a1, a2, a3, a4, a5, a6, a7) n := by
  refine br_c (fun h => br_c (fun h0 => ?_) (fun h0 => ?_)) (fun h => H0 ?_ a6 a7)
  · have h0' : ¬ n < 0 := fun z => absurd (Int32.lt_iff_toInt_lt.mp z) (by have := Int32.le_iff_toInt_le.mp h0; omega)
    obtain ⟨j, hj, rfl⟩ := nI_of h0'
    have hj' : j < 4096 := by
      have z := Int32.lt_iff_toInt_lt.mp h
      rw [nI_toInt hj] at z
      have e : (4096 : Int32).toInt = 4096 := by decide
      omega
    refine lj_18 hL hj' (fun ok hle => H1 ok (nI_nlt hle (by have := lj_code_lt ok; omega))) (fun no => H0 (fun z => no ⟨z.1, ?_⟩))
    rcases Nat.lt_or_ge (lj_code c) j with g | g
    · exact absurd (nI_lt g hj) z.2
    · exact g
  · have n0 : n < 0 := Int32.lt_iff_toInt_lt.mpr (by
      have z : ¬ (0 : Int32).toInt ≤ n.toInt := fun z => h0 (Int32.le_iff_toInt_le.mpr z)
      omega)
    have nl : lj_ok c → ¬ nI (lj_code c) < n := fun ok z => by
      have y := Int32.lt_iff_toInt_lt.mp z
      have y0 := Int32.lt_iff_toInt_lt.mp n0
      rw [nI_toInt (by have := lj_code_lt ok; omega)] at y
      have e : (0 : Int32).toInt = 0 := by decide
      omega
    exact lj_18 (low := 0) hL (by omega) (fun ok _ => H1 ok (nl ok)) (fun no => H0 (fun z => no ⟨z.1, by omega⟩))
  · rintro ⟨ok, z⟩
    refine z (Int32.lt_iff_toInt_lt.mpr ?_)
    have hc := lj_code_lt ok
    rw [nI_toInt (by omega)]
    have e : (4096 : Int32).toInt = 4096 := by decide
    have y : ¬ n.toInt < (4096 : Int32).toInt := fun y => h (Int32.lt_iff_toInt_lt.mpr y)
    omega
/-- by the answer A -/
theorem lj_nextA {n A : Int32} {a6 a7 : Nat → Int32} (hL : lj_L c s0 a1 a2 a3 a4 a5) (hV : lj_V c A)
    (H : ∀ a6' a7', post (if A < n then -1 else A) (s0, a1, a2, a3, a4, a5, a6', a7')) : wpX_nextFrom post (s0, a1, a2, a3, a4, a5, a6, a7) n := by
  refine lj_next hL (fun ok hn a6' a7' => ?_) (fun no a6' a7' => ?_)
  · have P := H a6' a7'
    rw [hV.1 ok, if_neg hn] at P
    exact P
  · have P := H a6' a7'
    by_cases ok : lj_ok c
    · have hn : nI (lj_code c) < n := Classical.byContradiction (fun z => no ⟨ok, z⟩)
      rw [hV.1 ok, if_pos hn] at P
      exact P
    · rw [hV.2 ok] at P
      have e : (if (-1 : Int32) < n then (-1 : Int32) else -1) = -1 := by split <;> rfl
      rw [e] at P
      exact P
theorem lj_countA {A : Int32} {a6 a7 : Nat → Int32} (hL : lj_L c s0 a1 a2 a3 a4 a5) (hV : lj_V c A)
    (H : ∀ a6' a7', post (if A < 0 then 0 else 1) (s0, a1, a2, a3, a4, a5, a6', a7')) : wpX_count post (s0, a1, a2, a3, a4, a5, a6, a7) := by
  unfold wpX_count
  dsimp only
  refine lj_next hL (fun ok hn b6 b7 => ?_) (fun no b6 b7 => ?_)
  · have hc := lj_code_lt ok
    refine ⟨3, br_f (by decide) (br_f (nI_pos (by omega)) (nm_e (lj_next hL (fun _ h => absurd ?_ h) (fun _ d6 d7 => nm_e (br_f (by decide) (br_t (by decide) ?_))))))⟩
    · rw [nI_1]
      exact nI_lt (by omega) (by omega)
    · have P := H d6 d7
      rw [hV.1 ok, if_neg (nI_pos (by omega))] at P
      exact P
  · have nok : ¬ lj_ok c := fun ok => no ⟨ok, nI_pos (by have := lj_code_lt ok; omega)⟩
    refine ⟨1, br_f (by decide) (br_t (by decide) ?_)⟩
    have P := H b6 b7
    rw [hV.2 nok, if_pos (by decide)] at P
    exact P
end
end
section
/-! ranges -/
theorem lj_n8 {x : Int32} : 8 ≤ x ↔ 7 < x := by
  rw [Int32.le_iff_toInt_le, Int32.lt_iff_toInt_lt]
  have e : (8 : Int32).toInt = 8 := by decide
  have f : (7 : Int32).toInt = 7 := by decide
  omega
theorem lj_n4 {x : Int32} : 4 ≤ x ↔ 3 < x := by
  rw [Int32.le_iff_toInt_le, Int32.lt_iff_toInt_lt]
  have e : (4 : Int32).toInt = 4 := by decide
  have f : (3 : Int32).toInt = 3 := by decide
  omega
theorem lj_n3 {x : Int32} : 3 ≤ x ↔ 2 < x := by
  rw [Int32.le_iff_toInt_le, Int32.lt_iff_toInt_lt]
  have e : (3 : Int32).toInt = 3 := by decide
  have f : (2 : Int32).toInt = 2 := by decide
  omega
def lj_X (x : Int32) : Prop := ¬ x < 0 ∧ ¬ 7 < x
def lj_Vr (x : Int32) : Prop := ¬ x < 0 ∧ ¬ 3 < x
def lj_Rl (x : Int32) : Prop := ¬ x < 0 ∧ ¬ 2 < x
theorem lj_X_n {x : Int32} (h : lj_X x) : ∃ p : Nat, p < 8 ∧ x = nI p := by
  obtain ⟨j, hj, rfl⟩ := nI_of h.1
  exact ⟨j, Classical.byContradiction (fun z => h.2 (nI_lt (a := 7) (by omega) hj)), rfl⟩
theorem lj_Vr_n {x : Int32} (h : lj_Vr x) : ∃ p : Nat, p < 4 ∧ x = nI p := by
  obtain ⟨j, hj, rfl⟩ := nI_of h.1
  exact ⟨j, Classical.byContradiction (fun z => h.2 (nI_lt (a := 3) (by omega) hj)), rfl⟩
theorem lj_Rl_n {x : Int32} (h : lj_Rl x) : ∃ p : Nat, p < 3 ∧ x = nI p := by
  obtain ⟨j, hj, rfl⟩ := nI_of h.1
  exact ⟨j, Classical.byContradiction (fun z => h.2 (nI_lt (a := 2) (by omega) hj)), rfl⟩
theorem lj_thing {post : Int32 → Prop} {x : Int32} (h1 : lj_X x → post 1) (h0 : ¬ lj_X x → post 0) : wpX_isThing post () x :=
  br_c (fun z => h0 (fun g => g.1 z)) (fun z => br_c (fun k => h0 (fun g => g.2 (lj_n8.mp k))) (fun k => h1 ⟨z, fun g => k (lj_n8.mpr g)⟩))
theorem lj_vari {post : Int32 → Prop} {x : Int32} (h1 : lj_Vr x → post 1) (h0 : ¬ lj_Vr x → post 0) : wpX_isVariable post () x :=
  br_c (fun z => h0 (fun g => g.1 z)) (fun z => br_c (fun k => h0 (fun g => g.2 (lj_n4.mp k))) (fun k => h1 ⟨z, fun g => k (lj_n4.mpr g)⟩))
theorem lj_rela {post : Int32 → Prop} {x : Int32} (h1 : lj_Rl x → post 1) (h0 : ¬ lj_Rl x → post 0) : wpX_isRelation post () x :=
  br_c (fun z => h0 (fun g => g.1 z)) (fun z => br_c (fun k => h0 (fun g => g.2 (lj_n3.mp k))) (fun k => h1 ⟨z, fun g => k (lj_n3.mpr g)⟩))
theorem lj_Rl0 : lj_Rl 0 := ⟨by decide, by decide⟩
theorem lj_b8 (x : Int32) : (0 * 8) + x = x := by rw [Int32.zero_mul, Int32.zero_add]
section
variable {s0 : Int32} {a1 a2 a3 a4 a5 a6 a7 : Nat → Int32} {p q : Nat}
theorem lj_put1 {post : St2 → Prop} (hA : lj_A false p q a1 a2) (hp : p < 8) (hq : q < 8) (H : ∀ a1' a2', lj_A true p q a1' a2' → post (s0, a1', a2', a3, a4, a5, a6, a7)) : wpX_put post (s0, a1, a2, a3, a4, a5, a6, a7) 0 (nI p) (nI q) 1 := by
  refine nm_r (lj_b8 (nI p)) (nm_r (lj_b8 (nI q)) (br_f (by decide) ⟨pk_in p 24 (by omega), pk_in p 24 (by omega), nm_e (br_f (by decide) ⟨pk_in q 24 (by omega), pk_in q 24 (by omega), nm_e (H _ _ ?_)⟩)⟩))
  have z1 : a1 p = 0 := (hA p (by omega)).1.trans (if_neg (fun g => Bool.noConfusion g.1))
  have z2 : a2 q = 0 := (hA q (by omega)).2.trans (if_neg (fun g => Bool.noConfusion g.1))
  rw [nI_clamp (show p < 2 ^ 31 by omega), nI_clamp (show q < 2 ^ 31 by omega), z1, z2, lj_on q hq, lj_on p hp]
  intro j hj
  constructor
  · by_cases e : j = p
    · rw [e, pk_us, if_pos ⟨rfl, rfl⟩]
    · rw [pk_un e, if_neg (fun g => e g.2)]
      exact (hA j hj).1.trans (if_neg (fun g => Bool.noConfusion g.1))
  · by_cases e : j = q
    · rw [e, pk_us, if_pos ⟨rfl, rfl⟩]
    · rw [pk_un e, if_neg (fun g => e g.2)]
      exact (hA j hj).2.trans (if_neg (fun g => Bool.noConfusion g.1))
theorem lj_put0 {post : St2 → Prop} (hA : lj_A true p q a1 a2) (hp : p < 8) (hq : q < 8) (H : ∀ a1' a2', lj_A false p q a1' a2' → post (s0, a1', a2', a3, a4, a5, a6, a7)) : wpX_put post (s0, a1, a2, a3, a4, a5, a6, a7) 0 (nI p) (nI q) 0 := by
  refine nm_r (lj_b8 (nI p)) (nm_r (lj_b8 (nI q)) (br_t rfl ⟨pk_in p 24 (by omega), pk_in p 24 (by omega), nm_e (br_t rfl ⟨pk_in q 24 (by omega), pk_in q 24 (by omega), nm_e (H _ _ ?_)⟩)⟩))
  have z1 : a1 p = nI (2 ^ q) := (hA p (by omega)).1.trans (if_pos ⟨rfl, rfl⟩)
  have z2 : a2 q = nI (2 ^ p) := (hA q (by omega)).2.trans (if_pos ⟨rfl, rfl⟩)
  rw [nI_clamp (show p < 2 ^ 31 by omega), nI_clamp (show q < 2 ^ 31 by omega), z1, z2, lj_off q hq, lj_off p hp]
  intro j hj
  constructor
  · rw [if_neg (fun g => Bool.noConfusion g.1)]
    by_cases e : j = p
    · rw [e, pk_us]
    · rw [pk_un e]
      exact (hA j hj).1.trans (if_neg (fun g => e g.2))
  · rw [if_neg (fun g => Bool.noConfusion g.1)]
    by_cases e : j = q
    · rw [e, pk_us]
    · rw [pk_un e]
      exact (hA j hj).2.trans (if_neg (fun g => e g.2))
theorem lj_pair {post : Int32 → St2 → Prop} {x y : Int32} (h0 : ∀ j, a1 j = 0) (h0' : ∀ j, a2 j = 0)
    (H1 : ∀ p q, p < 8 → q < 8 → x = nI p → y = nI q → ∀ a1' a2', lj_A true p q a1' a2' → post 1 (s0, a1', a2', a3, a4, a5, a6, a7))
    (H0 : ¬ (lj_X x ∧ lj_X y) → post 0 (s0, a1, a2, a3, a4, a5, a6, a7)) : wpX_pair post (s0, a1, a2, a3, a4, a5, a6, a7) 0 x y 1 := by
  unfold wpX_pair
  dsimp only
  refine lj_rela (fun _ => br_f (by decide) (lj_thing (fun hx => br_f (by decide) (lj_thing (fun hy => br_f (by decide) ?_) (fun hy => br_t rfl (H0 (fun g => hy g.2))))) (fun hx => br_t rfl (H0 (fun g => hx g.1))))) (fun g => absurd lj_Rl0 g)
  obtain ⟨p, hp, rfl⟩ := lj_X_n hx
  obtain ⟨q, hq, rfl⟩ := lj_X_n hy
  refine lj_put1 (fun j _ => ⟨?_, ?_⟩) hp hq (fun a1' a2' hA => H1 p q hp hq rfl rfl a1' a2' hA)
  · rw [h0 j, if_neg (fun g => Bool.noConfusion g.1)]
  · rw [h0' j, if_neg (fun g => Bool.noConfusion g.1)]
theorem lj_atom {post : Int32 → St2 → Prop} {r v w : Int32}
    (H1 : ∀ i j k, i < 3 → j < 4 → k < 4 → r = nI i → v = nI j → w = nI k → ∀ a3' a4' a5' : Nat → Int32, a3' 0 = nI i → a4' 0 = nI j → a5' 0 = nI k → post 1 (1, a1, a2, a3', a4', a5', a6, a7))
    (H0 : ¬ (lj_Rl r ∧ lj_Vr v ∧ lj_Vr w) → post (-1) (0, a1, a2, a3, a4, a5, a6, a7)) : wpX_atom post (0, a1, a2, a3, a4, a5, a6, a7) r v w := by
  unfold wpX_atom
  dsimp only
  refine lj_rela (fun hr => br_f (by decide) (lj_vari (fun hv => br_f (by decide) (lj_vari (fun hw => br_f (by decide) (br_t (by decide) ⟨pk_in 0 5 (by omega), nm_e ⟨pk_in 0 5 (by omega), nm_e ⟨pk_in 0 5 (by omega), nm_e (nm_r (show (0 : Int32) + 1 = 1 from by decide) ?_)⟩⟩⟩)) (fun hw => br_t rfl (H0 (fun g => hw g.2.2))))) (fun hv => br_t rfl (H0 (fun g => hv g.2.1))))) (fun hr => br_t rfl (H0 (fun g => hr g.1)))
  obtain ⟨i, hi, rfl⟩ := lj_Rl_n hr
  obtain ⟨j, hj, rfl⟩ := lj_Vr_n hv
  obtain ⟨k, hk, rfl⟩ := lj_Vr_n hw
  rw [sb_cl0, lj_byte i (by omega), lj_byte j (by omega), lj_byte k (by omega)]
  exact H1 i j k hi hj hk rfl rfl rfl _ _ _ pk_us pk_us pk_us
variable {c : Nat → Nat}
theorem lj_seek {post : Int32 → St2 → Prop} {n A : Int32} (hL : lj_L c s0 a1 a2 a3 a4 a5) (hV : lj_V c A)
    (H : ∀ a6' a7', post (if A < n then -1 else A) (s0, a1, a2, a3, a4, a5, a6', a7')) : wpX_seek post (s0, a1, a2, a3, a4, a5, a6, a7) n := by
  unfold wpX_seek
  dsimp only
  exact lj_nextA hL hV H
theorem lj_holds {post : Int32 → St2 → Prop} {n A : Int32} (hL : lj_L c s0 a1 a2 a3 a4 a5) (hV : lj_V c A) (hA : ¬ A < 0 ∨ A = -1)
    (H : ∀ a6' a7', post (if ¬ A < 0 ∧ n = A then 1 else 0) (s0, a1, a2, a3, a4, a5, a6', a7')) : wpX_holds post (s0, a1, a2, a3, a4, a5, a6, a7) n := by
  unfold wpX_holds
  dsimp only
  refine br_c (fun hn => ?_) (fun hn => lj_nextA hL hV (fun b6 b7 => br_c (fun e => ?_) (fun e => ?_)))
  · have P := H a6 a7
    rw [if_neg (fun g => g.1 (g.2 ▸ hn))] at P
    exact P
  · have P := H b6 b7
    by_cases l : A < n
    · rw [if_pos l] at e
      exact absurd (show n < 0 by rw [← e]; decide) hn
    · rw [if_neg l] at e
      rw [if_pos ⟨by rw [e]; exact hn, e.symm⟩] at P
      exact P
  · have P := H b6 b7
    rw [if_neg (fun g => e (by rw [g.2, if_neg (Int32.lt_irrefl (a := A))]))] at P
    exact P
theorem lj_loss0 {post : Int32 → St2 → Prop} {x y : Int32} (h : ¬ (lj_X x ∧ lj_X y)) (H : post (-1) (s0, a1, a2, a3, a4, a5, a6, a7)) : wpX_loss post (s0, a1, a2, a3, a4, a5, a6, a7) 0 x y := by
  unfold wpX_loss
  dsimp only
  exact lj_rela (fun _ => br_f (by decide) (lj_thing (fun hx => br_f (by decide) (lj_thing (fun hy => absurd ⟨hx, hy⟩ h) (fun _ => br_t rfl H))) (fun _ => br_t rfl H))) (fun g => absurd lj_Rl0 g)
theorem lj_xnI {p : Nat} (hp : p < 8) : lj_X (nI p) := ⟨nI_pos (by omega), nI_nlt (a := 7) (by omega) (by omega)⟩
theorem lj_loss1 {post : Int32 → St2 → Prop} {c' : Nat → Nat} {A A' : Int32} (hp : p < 8) (hq : q < 8) (hA : lj_A true p q a1 a2) (hL : lj_L c s0 a1 a2 a3 a4 a5) (hV : lj_V c A)
    (hL' : ∀ a1' a2', lj_A false p q a1' a2' → lj_L c' s0 a1' a2' a3 a4 a5) (hV' : lj_V c' A')
    (H : ∀ u, post ((if A < 0 then 0 else 1) - (if A' < 0 then 0 else 1)) u) : wpX_loss post (s0, a1, a2, a3, a4, a5, a6, a7) 0 (nI p) (nI q) := by
  unfold wpX_loss
  dsimp only
  refine lj_rela (fun _ => br_f (by decide) (lj_thing (fun hx => br_f (by decide) (lj_thing (fun hy => br_f (by decide) ⟨pk_in p 24 (by omega) (lj_b8 (nI p)), ?_⟩) (fun g => absurd (lj_xnI hq) g))) (fun g => absurd (lj_xnI hp) g))) (fun g => absurd lj_Rl0 g)
  rw [pk_cl p (lj_b8 (nI p)), (hA p (by omega)).1, if_pos ⟨rfl, rfl⟩]
  refine lj_in (P := q = q) ((lj_bit2 q hq q hq).trans Iff.rfl) (fun _ => br_f (by decide) ?_) (fun g => absurd rfl g)
  exact lj_countA hL hV (fun b6 b7 => lj_put0 hA hp hq (fun a1' a2' hA' => lj_countA (hL' a1' a2' hA') hV' (fun d6 d7 => lj_put1 hA' hp hq (fun b1 b2 _ => H _))))
end
end
section
def lj_b : Bool → Int32
  | true => 1
  | false => 0
/-- what the law asks of the six answers: X, Y things; G a good atom; I the pair is seen; A the answer -/
def lj_H (X Y G I : Bool) (A n st gt al fi ho lo : Int32) : Prop := st = lj_b (X && Y) ∧ gt = (if G = true then 1 else -1) ∧ al = (if A < 0 then 0 else 1) ∧ fi = (if A < n then -1 else A) ∧ ho = (if ¬ A < 0 ∧ n = A then 1 else 0) ∧ lo = (if (X && Y) = true then lj_b (G && I) else -1)
section
variable {post : Int32 → St0 → Prop} {mc ms kc ks : Nat} {X Y G I : Bool} {A n st gt al fi ho lo z0 z1 : Int32}
theorem lj_322 (hp : post 1 ()) (hz : z1 = z0) (h : lo = (if (X && Y) = true then lj_b (G && I) else -1)) : wL_lawOf_322 post mc ms lo (lj_b X) (lj_b Y) (lj_b G) (lj_b I) z0 z1 kc ks := by
  refine br_t hz ?_
  cases X
  · exact br_t rfl (br_t h hp)
  · refine br_f (by decide) ?_
    cases Y
    · exact br_t rfl (br_t h hp)
    · refine br_f (by decide) ?_
      cases G
      · exact br_t rfl (br_t h hp)
      · refine br_f (by decide) ?_
        cases I
        · exact br_t rfl (br_t h hp)
        · exact br_f (by decide) (br_t h hp)
theorem lj_300 (hp : post 1 ()) (hz : z1 = z0) (h5 : ho = (if ¬ A < 0 ∧ n = A then 1 else 0)) (h : lo = (if (X && Y) = true then lj_b (G && I) else -1)) : wL_lawOf_300 post mc ms n ho lo (lj_b X) (lj_b Y) (lj_b G) (lj_b I) A z0 z1 kc ks :=
  br_t hz (br_c (fun l => lj_322 hp (h5.trans (if_neg (fun g => g.1 l))) h) (fun l => br_c (fun e => lj_322 hp (h5.trans (if_pos ⟨l, e⟩)) h) (fun e => lj_322 hp (h5.trans (if_neg (fun g => e g.2))) h)))
theorem lj_275 {du : Int32} (hp : post 1 ()) (hz : z1 = z0) (h3 : al = du) (h4 : fi = (if A < n then -1 else A)) (h5 : ho = (if ¬ A < 0 ∧ n = A then 1 else 0)) (h : lo = (if (X && Y) = true then lj_b (G && I) else -1)) : wL_lawOf_275 post mc ms n al fi ho lo (lj_b X) (lj_b Y) (lj_b G) (lj_b I) A du z0 z1 kc ks :=
  br_t hz (br_t h3 (br_c (fun l => lj_300 hp (h4.trans (if_pos l)) h5 h) (fun l => lj_300 hp (h4.trans (if_neg l)) h5 h)))
theorem lj_260 {du : Int32} (hp : post 1 ()) (hz : z1 = z0) (h2 : gt = (if G = true then 1 else -1)) (h3 : al = du) (h4 : fi = (if A < n then -1 else A)) (h5 : ho = (if ¬ A < 0 ∧ n = A then 1 else 0)) (h : lo = (if (X && Y) = true then lj_b (G && I) else -1)) : wL_lawOf_260 post mc ms n gt al fi ho lo (lj_b X) (lj_b Y) (lj_b G) (lj_b I) A du z0 z1 kc ks := by
  refine br_t hz ?_
  cases G
  · exact br_t rfl (lj_275 hp h2 h3 h4 h5 h)
  · exact br_f (by decide) (lj_275 hp h2 h3 h4 h5 h)
theorem lj_241 {du : Int32} (hp : post 1 ()) (h1 : st = lj_b (X && Y)) (h2 : gt = (if G = true then 1 else -1)) (h3 : al = du) (h4 : fi = (if A < n then -1 else A)) (h5 : ho = (if ¬ A < 0 ∧ n = A then 1 else 0)) (h : lo = (if (X && Y) = true then lj_b (G && I) else -1)) : wL_lawOf_241 post mc ms n st gt al fi ho lo (lj_b X) (lj_b Y) (lj_b G) (lj_b I) A du kc ks := by
  cases X
  · exact br_t rfl (lj_260 (X := false) (Y := Y) hp h1 h2 h3 h4 h5 h)
  · refine br_f (by decide) ?_
    cases Y
    · exact br_t rfl (lj_260 (X := true) (Y := false) hp h1 h2 h3 h4 h5 h)
    · exact br_f (by decide) (lj_260 (X := true) (Y := true) hp h1 h2 h3 h4 h5 h)
theorem lj_229 (hp : post 1 ()) (h : lj_H X Y G I A n st gt al fi ho lo) : wL_lawOf_229 post mc ms n st gt al fi ho lo (lj_b X) (lj_b Y) (lj_b G) (lj_b I) A kc ks := by
  obtain ⟨h1, h2, h3, h4, h5, h6⟩ := h
  exact br_c (fun l => lj_241 hp h1 h2 (h3.trans (if_pos l)) h4 h5 h6) (fun l => lj_241 hp h1 h2 (h3.trans (if_neg l)) h4 h5 h6)
/-- the answer as the law writes it -/
def lj_An (G I : Bool) (x y v w : Int32) : Int32 := if G = true then (if I = true then (if v = w then x <<< ((9 - (3 * (v &&& 3))) &&& 31) else (x <<< ((9 - (3 * (v &&& 3))) &&& 31)) ||| (y <<< ((9 - (3 * (w &&& 3))) &&& 31))) else -1) else 0
variable {r x y v w : Int32}
theorem lj_166 (hp : post 1 ()) (h : lj_H X Y G I (lj_An G I x y v w) n st gt al fi ho lo) : wL_lawOf_166 post mc ms x y v w n st gt al fi ho lo (lj_b X) (lj_b Y) (lj_b G) (lj_b I) kc ks := by
  refine nm_e (nm_e ?_)
  cases G
  · exact br_t rfl (lj_229 (G := false) hp h)
  · refine br_f (by decide) ?_
    cases I
    · exact br_t rfl (lj_229 (G := true) (I := false) hp h)
    · refine br_f (by decide) (br_c (fun e => ?_) (fun e => ?_))
      · have k : lj_An true true x y v w = x <<< ((9 - (3 * (v &&& 3))) &&& 31) := if_pos e
        rw [k] at h
        exact lj_229 (G := true) (I := true) hp h
      · have k : lj_An true true x y v w = (x <<< ((9 - (3 * (v &&& 3))) &&& 31)) ||| (y <<< ((9 - (3 * (w &&& 3))) &&& 31)) := if_neg e
        rw [k] at h
        exact lj_229 (G := true) (I := true) hp h
theorem lj_134 (hp : post 1 ()) (hI : I = true ↔ X = true ∧ Y = true ∧ r = 0 ∧ (v ≠ w ∨ x = y)) (h : lj_H X Y G I (lj_An G I x y v w) n st gt al fi ho lo) : wL_lawOf_134 post mc ms r x y v w n st gt al fi ho lo (lj_b X) (lj_b Y) (lj_b G) kc ks := by
  have F : ¬ (X = true ∧ Y = true ∧ r = 0 ∧ (v ≠ w ∨ x = y)) → wL_lawOf_165 post mc ms x y v w n st gt al fi ho lo (lj_b X) (lj_b Y) (lj_b G) kc ks := by
    intro z
    have e : I = false := Bool.eq_false_iff.mpr (fun g => z (hI.mp g))
    rw [e] at h
    exact lj_166 (I := false) hp h
  have T : (X = true ∧ Y = true ∧ r = 0 ∧ (v ≠ w ∨ x = y)) → wL_lawOf_161 post mc ms x y v w n st gt al fi ho lo (lj_b X) (lj_b Y) (lj_b G) kc ks := by
    intro z
    have e : I = true := hI.mpr z
    rw [e] at h
    exact lj_166 (I := true) hp h
  cases X
  · exact br_t rfl (F (fun g => Bool.noConfusion g.1))
  · refine br_f (by decide) ?_
    cases Y
    · exact br_t rfl (F (fun g => Bool.noConfusion g.2.1))
    · exact br_f (by decide) (br_c (fun er => br_c (fun ev => br_c (fun ex => T ⟨rfl, rfl, er, Or.inr ex⟩) (fun ex => F (fun g => g.2.2.2.elim (fun k => k ev) ex))) (fun ev => T ⟨rfl, rfl, er, Or.inl ev⟩)) (fun er => F (fun g => er g.2.2.1)))
theorem lj_98 (hp : post 1 ()) (hG : G = true ↔ lj_Rl r ∧ lj_Vr v ∧ lj_Vr w) (hI : I = true ↔ X = true ∧ Y = true ∧ r = 0 ∧ (v ≠ w ∨ x = y)) (h : lj_H X Y G I (lj_An G I x y v w) n st gt al fi ho lo) : wL_lawOf_98 post mc ms r x y v w n st gt al fi ho lo (lj_b X) (lj_b Y) kc ks := by
  have F : ¬ (lj_Rl r ∧ lj_Vr v ∧ lj_Vr w) → wL_lawOf_133 post mc ms r x y v w n st gt al fi ho lo (lj_b X) (lj_b Y) kc ks := by
    intro z
    have e : G = false := Bool.eq_false_iff.mpr (fun g => z (hG.mp g))
    rw [e] at h
    exact lj_134 (G := false) hp hI h
  have T : (lj_Rl r ∧ lj_Vr v ∧ lj_Vr w) → wL_lawOf_134 post mc ms r x y v w n st gt al fi ho lo (lj_b X) (lj_b Y) 1 kc ks := by
    intro z
    have e : G = true := hG.mpr z
    rw [e] at h
    exact lj_134 (G := true) hp hI h
  exact br_c (fun k => F (fun g => g.1.1 k)) (fun k1 => br_c (fun k => F (fun g => g.1.2 k)) (fun k2 => br_c (fun k => F (fun g => g.2.1.1 k)) (fun k3 => br_c (fun k => F (fun g => g.2.1.2 k)) (fun k4 => br_c (fun k => F (fun g => g.2.2.1 k)) (fun k5 => br_c (fun k => F (fun g => g.2.2.2 k)) (fun k6 => T ⟨⟨k1, k2⟩, ⟨k3, k4⟩, ⟨k5, k6⟩⟩))))))
theorem lj_81 (hp : post 1 ()) (hY : Y = true ↔ lj_X y) (hG : G = true ↔ lj_Rl r ∧ lj_Vr v ∧ lj_Vr w) (hI : I = true ↔ X = true ∧ Y = true ∧ r = 0 ∧ (v ≠ w ∨ x = y)) (h : lj_H X Y G I (lj_An G I x y v w) n st gt al fi ho lo) : wL_lawOf_81 post mc ms r x y v w n st gt al fi ho lo (lj_b X) kc ks := by
  have F : ¬ lj_X y → wL_lawOf_97 post mc ms r x y v w n st gt al fi ho lo (lj_b X) kc ks := by
    intro z
    have e : Y = false := Bool.eq_false_iff.mpr (fun g => z (hY.mp g))
    rw [e] at h hI
    exact lj_98 (Y := false) hp hG hI h
  have T : lj_X y → wL_lawOf_98 post mc ms r x y v w n st gt al fi ho lo (lj_b X) 1 kc ks := by
    intro z
    have e : Y = true := hY.mpr z
    rw [e] at h hI
    exact lj_98 (Y := true) hp hG hI h
  exact br_c (fun k => F (fun g => g.1 k)) (fun k1 => br_c (fun k => F (fun g => g.2 k)) (fun k2 => T ⟨k1, k2⟩))
theorem lj_top (hp : post 1 ()) (hX : X = true ↔ lj_X x) (hY : Y = true ↔ lj_X y) (hG : G = true ↔ lj_Rl r ∧ lj_Vr v ∧ lj_Vr w) (hI : I = true ↔ X = true ∧ Y = true ∧ r = 0 ∧ (v ≠ w ∨ x = y)) (h : lj_H X Y G I (lj_An G I x y v w) n st gt al fi ho lo) :
    (x < 0 → wL_lawOf_80 post mc ms r x y v w n st gt al fi ho lo kc ks) ∧ (¬ x < 0 → ((7 < x → wL_lawOf_80 post mc ms r x y v w n st gt al fi ho lo kc ks) ∧ (¬ 7 < x → wL_lawOf_81 post mc ms r x y v w n st gt al fi ho lo 1 kc ks))) := by
  have F : ¬ lj_X x → wL_lawOf_80 post mc ms r x y v w n st gt al fi ho lo kc ks := by
    intro z
    have e : X = false := Bool.eq_false_iff.mpr (fun g => z (hX.mp g))
    rw [e] at h hI
    exact lj_81 (X := false) hp hY hG hI h
  have T : lj_X x → wL_lawOf_81 post mc ms r x y v w n st gt al fi ho lo 1 kc ks := by
    intro z
    have e : X = true := hX.mpr z
    rw [e] at h hI
    exact lj_81 (X := true) hp hY hG hI h
  exact br_c (fun k => F (fun g => g.1 k)) (fun k1 => br_c (fun k => F (fun g => g.2 k)) (fun k2 => T ⟨k1, k2⟩))
end
/-! the answer is the one that the walk finds -/
def lj_tabB (v w p q : Nat) : Bool := decide ((v ≠ w ∨ p = q) → lj_An true true (nI p) (nI q) (nI v) (nI w) = nI (lj_code (lj_c true 0 p q v w)))
theorem lj_tabT : ∀ v, v < 4 → ∀ w, w < 4 → ∀ p, p < 8 → ∀ q, q < 8 → lj_tabB v w p q = true := by decide +kernel
theorem lj_tab (v : Nat) (hv : v < 4) (w : Nat) (hw : w < 4) (p : Nat) (hp : p < 8) (q : Nat) (hq : q < 8) (h : v ≠ w ∨ p = q) : lj_An true true (nI p) (nI q) (nI v) (nI w) = nI (lj_code (lj_c true 0 p q v w)) :=
  of_decide_eq_true (lj_tabT v hv w hw p hp q hq) h
theorem lj_V0 {I : Bool} {x y v w : Int32} : lj_V (fun _ => 0) (lj_An false I x y v w) :=
  ⟨fun _ => rfl, fun h => absurd (fun _ _ => Nat.zero_lt_succ 7) h⟩
theorem lj_ok1 {o : Bool} {r p q v w : Nat} (hp : p < 8) (hq : q < 8) (g : o = true ∧ r = 0 ∧ (v ≠ w ∨ p = q)) : lj_ok (lj_c o r p q v w) := by
  intro d hd
  by_cases e : d = v
  · rw [e, lj_c_v g]
    exact hp
  · by_cases f : d = w
    · rw [f, lj_c_w g]
      exact hq
    · rw [lj_c_0 (by omega)]
      omega
theorem lj_V1 {o : Bool} {r p q v w : Nat} (hp : p < 8) (hq : q < 8) (hv : v < 4) (hw : w < 4) {I : Bool} (hI : I = true ↔ o = true ∧ r = 0 ∧ (v ≠ w ∨ p = q)) {x y : Int32} (hx : o = true → x = nI p) (hy : o = true → y = nI q) : lj_V (lj_c o r p q v w) (lj_An true I x y (nI v) (nI w)) := by
  by_cases g : o = true ∧ r = 0 ∧ (v ≠ w ∨ p = q)
  · refine ⟨fun _ => ?_, fun h => absurd (lj_ok1 hp hq g) h⟩
    rw [hI.mpr g, hx g.1, hy g.1]
    obtain ⟨rfl, rfl, k⟩ := g
    exact lj_tab v hv w hw p hp q hq k
  · refine ⟨fun ok => ?_, fun _ => ?_⟩
    · have z := ok v hv
      rw [lj_c_8 g (Or.inl rfl)] at z
      omega
    · have e : I = false := Bool.eq_false_iff.mpr (fun k => g (hI.mp k))
      rw [e]
      rfl
/-- an answer is no thing below -1 -/
theorem lj_V_sg {c : Nat → Nat} {A : Int32} (h : lj_V c A) : ¬ A < 0 ∨ A = -1 := by
  by_cases ok : lj_ok c
  · refine Or.inl ?_
    rw [h.1 ok]
    exact nI_pos (by have := lj_code_lt ok; omega)
  · exact Or.inr (h.2 ok)
end
section
theorem lj_bool (P : Prop) : ∃ b : Bool, b = true ↔ P := by
  by_cases h : P
  · exact ⟨true, ⟨fun _ => h, fun _ => rfl⟩⟩
  · exact ⟨false, ⟨fun g => Bool.noConfusion g, fun g => absurd g h⟩⟩
/-- what the loss is where the pair stands and the atom is good -/
theorem lj_lo1 {I : Bool} {A A' : Int32} (h1 : I = true → ¬ A < 0) (h0 : I = false → A = -1) (h' : A' = -1) : (if A < 0 then (0 : Int32) else 1) - (if A' < 0 then (0 : Int32) else 1) = if (true && true) = true then lj_b (true && I) else -1 := by
  rw [h']
  cases I
  · rw [h0 rfl]
    decide
  · rw [if_neg (h1 rfl)]
    decide
theorem lj_lawOf {post : Int32 → St0 → Prop} (hp1 : post 1 ()) (r x y v w n : Int32) : wpL_lawOf post 8 79 () r x y v w n := by
  obtain ⟨X, hX⟩ := lj_bool (lj_X x)
  obtain ⟨Y, hY⟩ := lj_bool (lj_X y)
  obtain ⟨G, hG⟩ := lj_bool (lj_Rl r ∧ lj_Vr v ∧ lj_Vr w)
  obtain ⟨I, hI⟩ := lj_bool (X = true ∧ Y = true ∧ r = 0 ∧ (v ≠ w ∨ x = y))
  refine ⟨by omega, by omega, 7, 71, by omega, by omega, ?_⟩
  refine ⟨by omega, by omega, by omega, by omega, by omega, by omega, by omega, by omega, by omega, by omega, by omega, by omega, by omega, by omega, ?_⟩
  refine lj_pair (fun _ => rfl) (fun _ => rfl) (fun p q hp hq ex ey b1 b2 hA => ?_) (fun hn => ?_)
  · have eX : X = true := hX.mpr (by rw [ex]; exact lj_xnI hp)
    have eY : Y = true := hY.mpr (by rw [ey]; exact lj_xnI hq)
    refine lj_atom (fun i j k hi hj hk er ev ew b3 b4 b5 h3 h4 h5 => ?_) (fun hg => ?_)
    · have eG : G = true := hG.mpr (by
        rw [er, ev, ew]
        exact ⟨⟨nI_pos (by omega), nI_nlt (a := 2) (by omega) (by omega)⟩, ⟨nI_pos (by omega), nI_nlt (a := 3) (by omega) (by omega)⟩, ⟨nI_pos (by omega), nI_nlt (a := 3) (by omega) (by omega)⟩⟩)
      subst eX eY eG ex ey er ev ew
      have hI' : I = true ↔ true = true ∧ i = 0 ∧ (j ≠ k ∨ p = q) := by
        constructor
        · intro h
          obtain ⟨_, _, g1, g2⟩ := hI.mp h
          refine ⟨rfl, (nI_eq (b := 0) (by omega) (by omega)).mp g1, ?_⟩
          rcases g2 with g | g
          · exact Or.inl (fun e => g (by rw [e]))
          · exact Or.inr ((nI_eq (by omega) (by omega)).mp g)
        · rintro ⟨_, g1, g2⟩
          refine hI.mpr ⟨rfl, rfl, by rw [g1]; rfl, ?_⟩
          rcases g2 with g | g
          · exact Or.inl (fun e => g ((nI_eq (by omega) (by omega)).mp e))
          · exact Or.inr (by rw [g])
      have hL := lj_L1 hA hi hp hq hj hk h3 h4 h5
      have hV := lj_V1 (r := i) hp hq hj hk hI' (x := nI p) (y := nI q) (fun _ => rfl) (fun _ => rfl)
      have nI0 : ∀ (t : Prop), ((false = true) ↔ (false = true ∧ t)) := fun t => ⟨fun z => Bool.noConfusion z, fun z => z.1⟩
      have hV' := lj_V1 (o := false) (r := i) hp hq hj hk (I := false) (nI0 _) (x := nI p) (y := nI q) (fun _ => rfl) (fun _ => rfl)
      refine lj_countA hL hV (fun c6 c7 => lj_seek hL hV (fun d6 d7 => lj_holds hL hV (lj_V_sg hV) (fun e6 e7 => ?_)))
      refine lj_loss1 hp hq hA hL hV (fun _ _ hA' => lj_L1 hA' hi hp hq hj hk h3 h4 h5) hV' (fun u => ?_)
      obtain ⟨_, _, _, _, _, _, _, _⟩ := u
      refine lj_top (X := true) (Y := true) (G := true) (I := I) hp1 hX hY hG hI ⟨rfl, rfl, rfl, rfl, rfl, lj_lo1 (fun h => ?_) (fun h => ?_) rfl⟩
      · have ok := lj_ok1 hp hq (hI'.mp h)
        rw [hV.1 ok]
        exact nI_pos (by have := lj_code_lt ok; omega)
      · rw [h]
        rfl
    · have eG : G = false := Bool.eq_false_iff.mpr (fun z => hg (hG.mp z))
      subst eX eY eG ex ey
      have hV : lj_V (fun _ => 0) (lj_An false I (nI p) (nI q) v w) := lj_V0
      refine lj_countA lj_L0 hV (fun c6 c7 => lj_seek lj_L0 hV (fun d6 d7 => lj_holds lj_L0 hV (lj_V_sg hV) (fun e6 e7 => ?_)))
      refine lj_loss1 hp hq hA lj_L0 hV (fun _ _ _ => lj_L0) hV (fun u => ?_)
      obtain ⟨_, _, _, _, _, _, _, _⟩ := u
      have q6 : ∀ A : Int32, A = 0 → (if A < 0 then (0 : Int32) else 1) - (if A < 0 then (0 : Int32) else 1) = if (true && true) = true then lj_b false else -1 := by
        intro A e
        rw [e]
        decide
      exact lj_top (X := true) (Y := true) (G := false) (I := I) hp1 hX hY hG hI ⟨rfl, rfl, rfl, rfl, rfl, q6 _ rfl⟩
  · have eXY : (X && Y) = false := Bool.eq_false_iff.mpr (fun z => by
      rw [Bool.and_eq_true] at z
      exact hn ⟨hX.mp z.1, hY.mp z.2⟩)
    have q1 : (0 : Int32) = lj_b (X && Y) := by
      rw [eXY]
      rfl
    have q6 : (-1 : Int32) = if (X && Y) = true then lj_b (G && I) else -1 := by
      rw [eXY]
      rfl
    refine lj_atom (fun i j k hi hj hk er ev ew b3 b4 b5 h3 h4 h5 => ?_) (fun hg => ?_)
    · have eG : G = true := hG.mpr (by
        rw [er, ev, ew]
        exact ⟨⟨nI_pos (by omega), nI_nlt (a := 2) (by omega) (by omega)⟩, ⟨nI_pos (by omega), nI_nlt (a := 3) (by omega) (by omega)⟩, ⟨nI_pos (by omega), nI_nlt (a := 3) (by omega) (by omega)⟩⟩)
      subst eG er ev ew
      have hI' : I = true ↔ false = true ∧ i = 0 ∧ (j ≠ k ∨ 0 = 0) := ⟨fun h => absurd ⟨hX.mp (hI.mp h).1, hY.mp (hI.mp h).2.1⟩ hn, fun g => Bool.noConfusion g.1⟩
      have hA : lj_A false 0 0 (fun _ => 0) (fun _ => 0) := fun j _ => ⟨(if_neg (fun g => Bool.noConfusion g.1)).symm, (if_neg (fun g => Bool.noConfusion g.1)).symm⟩
      have hL := lj_L1 hA hi (by omega) (by omega) hj hk h3 h4 h5
      have hV := lj_V1 (o := false) (r := i) (p := 0) (q := 0) (by omega) (by omega) hj hk hI' (x := x) (y := y) (fun z => Bool.noConfusion z) (fun z => Bool.noConfusion z)
      refine lj_countA hL hV (fun c6 c7 => lj_seek hL hV (fun d6 d7 => lj_holds hL hV (lj_V_sg hV) (fun e6 e7 => lj_loss0 hn ?_)))
      exact lj_top (G := true) (I := I) hp1 hX hY hG hI ⟨q1, rfl, rfl, rfl, rfl, q6⟩
    · have eG : G = false := Bool.eq_false_iff.mpr (fun z => hg (hG.mp z))
      subst eG
      have hV : lj_V (fun _ => 0) (lj_An false I x y v w) := lj_V0
      refine lj_countA lj_L0 hV (fun c6 c7 => lj_seek lj_L0 hV (fun d6 d7 => lj_holds lj_L0 hV (lj_V_sg hV) (fun e6 e7 => lj_loss0 hn ?_)))
      exact lj_top (G := false) (I := I) hp1 hX hY hG hI ⟨q1, rfl, rfl, rfl, rfl, q6⟩
theorem i_vc (xs : Nat → Int32) (L : Nat) (hL : L ≤ 6) : wpL_law (fun r => r = 1) L xs := by
  have C : ∀ (post : Int32 → Prop) (i : Nat), i < 6 → (∀ a, post a) → wpL_cellAt post L xs () (nI i) := fun post i hi h => pk_le L i (fun _ => h _) (fun k => ⟨pk_in i L k, h _⟩)
  exact C _ 0 (by omega) (fun a0 => C _ 1 (by omega) (fun a1 => C _ 2 (by omega) (fun a2 => C _ 3 (by omega) (fun a3 => C _ 4 (by omega) (fun a4 => C _ 5 (by omega) (fun a5 => ⟨8, 79, by omega, by omega, lj_lawOf rfl a0 a1 a2 a3 a4 a5⟩))))))
end
