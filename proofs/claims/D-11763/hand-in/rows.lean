section
/-- the bit of a signal -/
def dc_b (k : Nat) : Int32 := (1 : Int32) <<< (nI k &&& 31)
/-- how many of the first n places are set -/
def dc_n (x : Int32) : Nat → Int32
  | 0 => 0
  | n + 1 => dc_n x n + ((x >>> (nI n &&& 31)) &&& 1)
theorem dc_n0 : dc_n 0 12 = 0 := by decide +kernel
theorem dc_n1 : ∀ k, k < 12 → dc_n (dc_b k) 12 = 1 := by decide +kernel
theorem dc_bne : ∀ k, k < 12 → ¬ dc_b k = 0 := by decide +kernel
theorem dc_bb : ∀ k, k < 12 → ∀ j, j < 12 → ((((dc_b k >>> (nI j &&& 31)) &&& 1) = 1) ↔ j = k) := by decide +kernel
theorem dc_b0 : ∀ j, j < 12 → ¬ ((((0 : Int32) >>> (nI j &&& 31)) &&& 1) = 1) := by decide +kernel
theorem dc_cl {n : Nat} (h : n < 2000) : (nI n).toNatClampNeg = n := nI_clamp (by omega)
theorem dc_ix (q k : Nat) : nI q * 12 + nI k = nI (q * 12 + k) := by
  rw [show (12 : Int32) = nI 12 from rfl, pk_mul, nI_add]
/-- the target and the last signal -/
def dc_st (m : Nat) : Nat := (m + 1) % 4
def dc_sz (m : Nat) : Nat := 4 + (m + 1) % 4
/-- the three signals that are driven -/
def dc_set (m : Nat) : Int32 := (dc_b m ||| dc_b (4 + m)) ||| dc_b (8 + m)
def dc_p0 (m : Nat) : Int32 := ((nI m ||| (nI (4 + m) <<< ((4 : Int32) &&& 31))) ||| (nI (8 + m) <<< ((8 : Int32) &&& 31))) ||| (nI (dc_st m) <<< ((12 : Int32) &&& 31))
def dc_p1 (m : Nat) : Int32 := ((nI (dc_st m) ||| (nI (dc_st m) <<< ((4 : Int32) &&& 31))) ||| (nI (dc_st m) <<< ((8 : Int32) &&& 31))) ||| (nI (dc_sz m) <<< ((12 : Int32) &&& 31))
/-- a packed word of four signals -/
def dc_pt (x : Int32) (i0 i1 i2 i3 : Nat) : Prop :=
  ((x >>> ((4 * (0 : Int32)) &&& 31)) &&& 15) = nI i0 ∧ ((x >>> ((4 * (1 : Int32)) &&& 31)) &&& 15) = nI i1 ∧ ((x >>> ((4 * (2 : Int32)) &&& 31)) &&& 15) = nI i2 ∧ ((x >>> ((4 * (3 : Int32)) &&& 31)) &&& 15) = nI i3
theorem dc_pt0 (m : Nat) (hm : m < 4) : dc_pt (dc_p0 m) m (4 + m) (8 + m) (dc_st m) := by
  unfold dc_pt
  revert m
  decide +kernel
theorem dc_pt1 (m : Nat) (hm : m < 4) : dc_pt (dc_p1 m) (dc_st m) (dc_st m) (dc_st m) (dc_sz m) := by
  unfold dc_pt
  revert m
  decide +kernel
theorem dc_how : ∀ k, k < 6 → ∀ d, d < 10 → ((nI k ||| (nI d <<< ((4 : Int32) &&& 31))) &&& 7) = nI k ∧ (((nI k ||| (nI d <<< ((4 : Int32) &&& 31))) >>> ((4 : Int32) &&& 31)) &&& 15) = nI d := by decide +kernel
/-- what the two processes watch -/
theorem dc_w0 : ∀ m, m < 4 → dc_set m &&& 4095 = dc_set m := by decide +kernel
theorem dc_w1 : ∀ m, m < 4 → dc_b (dc_st m) &&& 4095 = dc_b (dc_st m) := by decide +kernel
theorem dc_w0t : ∀ m, m < 4 → dc_set m &&& dc_b (dc_st m) = 0 := by decide +kernel
theorem dc_w0z : ∀ m, m < 4 → dc_set m &&& dc_b (dc_sz m) = 0 := by decide +kernel
theorem dc_w1t : ∀ m, m < 4 → ¬ dc_b (dc_st m) &&& dc_b (dc_st m) = 0 := by decide +kernel
theorem dc_w1z : ∀ m, m < 4 → dc_b (dc_st m) &&& dc_b (dc_sz m) = 0 := by decide +kernel
theorem dc_setb : ∀ m, m < 4 → ∀ j, j < 12 → ((((dc_set m >>> (nI j &&& 31)) &&& 1) = 1) ↔ (j = m ∨ j = 4 + m ∨ j = 8 + m)) := by decide +kernel
theorem dc_set1 : ∀ m, m < 4 → dc_n (0 ||| dc_b m) 12 = 1 ∧ dc_n ((0 ||| dc_b m) ||| dc_b (4 + m)) 12 = 2 ∧ dc_n (((0 ||| dc_b m) ||| dc_b (4 + m)) ||| dc_b (8 + m)) 12 = 3 ∧ ((0 ||| dc_b m) ||| dc_b (4 + m)) ||| dc_b (8 + m) = dc_set m ∧ ¬ dc_set m = 0 := by decide +kernel
/-- one signal's part of what has changed -/
def dc_e (c : Bool) (k : Nat) : Int32 := if c then dc_b k else 0
def dc_o (c : Bool) : Int32 := if c then 1 else 0
def dc_ch (m : Nat) (p q r : Bool) : Int32 := ((0 ||| dc_e p m) ||| dc_e q (4 + m)) ||| dc_e r (8 + m)
theorem dc_chn : ∀ m, m < 4 → ∀ p q r : Bool, dc_n (dc_ch m p q r) 12 = (dc_o p + dc_o q) + dc_o r ∧ dc_b (dc_st m) &&& dc_ch m p q r = 0 ∧ (dc_set m &&& dc_ch m p q r = 0 ↔ (dc_o p + dc_o q) + dc_o r = 0) := by decide +kernel
theorem dc_sto : ∀ m, m < 4 → dc_st m < 4 ∧ dc_st m ≠ m ∧ 4 ≤ dc_sz m ∧ dc_sz m < 8 ∧ dc_sz m ≠ 4 + m := by decide +kernel
/-- no change is due in the wheel -/
def dc_Z (a : Nat → Int32) : Prop := ∀ i, i < 10 → a i = 0
theorem dc_Zc {s : Nat → Int32} {q : Nat} (hq : q < 10) (h : dc_Z s) (y : Int32) : dc_Z (upd s (nI q).toNatClampNeg (s (nI q).toNatClampNeg &&& y)) := by
  rw [dc_cl (by omega)]
  intro i hi
  by_cases e : i = q
  · rw [e, pk_us, h q hq, Int32.zero_and]
  · rw [pk_un e]
    exact h i hi
/-- one change is due: signal k gets v in n units -/
def dc_P (T k n : Nat) (v ds : Int32) (a8 a9 a10 : Nat → Int32) : Prop :=
  (n = 0 ∧ ds = dc_b k ∧ a8 k = v ∧ dc_Z a9) ∨ (0 < n ∧ ds = 0 ∧ (∀ i, i < 10 → a9 i = if i = (T + n) % 10 then dc_b k else 0) ∧ a10 ((T + n) % 10 * 12 + k) = v)
/-- what is pending, as the class counts it -/
def dc_pn (ds : Int32) (a9 : Nat → Int32) : Nat → Int32
  | 0 => dc_n ds 12
  | k + 1 => dc_pn ds a9 k + dc_n (a9 k) 12
theorem dc_pnZ {ds : Int32} {a9 : Nat → Int32} (hz : dc_Z a9) : ∀ k, k ≤ 10 → dc_pn ds a9 k = dc_n ds 12
  | 0, _ => rfl
  | k + 1, h => by
    show dc_pn ds a9 k + dc_n (a9 k) 12 = dc_n ds 12
    rw [dc_pnZ hz k (by omega), hz k (by omega), dc_n0, Int32.add_zero]
theorem dc_pnW {a9 : Nat → Int32} {q s : Nat} (hs : s < 12) (h : ∀ i, i < 10 → a9 i = if i = q then dc_b s else 0) : ∀ k, k ≤ 10 → dc_pn 0 a9 k = if q < k then 1 else 0
  | 0, _ => by
    rw [if_neg (by omega)]
    exact dc_n0
  | k + 1, hk => by
    show dc_pn 0 a9 k + dc_n (a9 k) 12 = _
    rw [dc_pnW hs h k (by omega), h k (by omega)]
    by_cases e : k = q
    · rw [if_neg (by omega), if_pos e, if_pos (by omega), dc_n1 s hs]
      rfl
    · rw [if_neg e, dc_n0, Int32.add_zero]
      by_cases g : q < k
      · rw [if_pos g, if_pos (by omega)]
      · rw [if_neg g, if_neg (by omega)]
theorem dc_pnP {T k n : Nat} {v ds : Int32} {a8 a9 a10 : Nat → Int32} (hk : k < 12) (h : dc_P T k n v ds a8 a9 a10) : dc_pn ds a9 10 = 1 := by
  rcases h with ⟨_, h1, _, h3⟩ | ⟨_, h1, h2, _⟩
  · rw [dc_pnZ h3 10 (by omega), h1, dc_n1 k hk]
  · rw [h1, dc_pnW hk h2 10 (by omega), if_pos (by omega)]
/-- taking changes: what has changed, the values, the counts, when the first i signals are done -/
def dc_x (set : Int32) (v b : Nat → Int32) : Nat → Int32
  | 0 => 0
  | i + 1 => if ((set >>> (nI i &&& 31)) &&& 1) = 1 then dc_x set v b i ||| dc_e (decide (¬ b i = v i)) i else dc_x set v b i
def dc_v (set : Int32) (v b : Nat → Int32) (i : Nat) : Nat → Int32 := fun j => if j < i ∧ ((set >>> (nI j &&& 31)) &&& 1) = 1 then v j else b j
def dc_c (set : Int32) (v b c : Nat → Int32) (i : Nat) : Nat → Int32 := fun j => if j < i ∧ ((set >>> (nI j &&& 31)) &&& 1) = 1 ∧ ¬ b j = v j then c j + 1 else c j
theorem dc_v0 (set : Int32) (v b : Nat → Int32) : dc_v set v b 0 = b := by
  funext j
  exact if_neg (fun h => absurd h.1 (by omega))
theorem dc_c0 (set : Int32) (v b c : Nat → Int32) : dc_c set v b c 0 = c := by
  funext j
  exact if_neg (fun h => absurd h.1 (by omega))
theorem dc_vi (set : Int32) (v b : Nat → Int32) (i : Nat) : dc_v set v b i i = b i := if_neg (fun h => absurd h.1 (by omega))
theorem dc_ci (set : Int32) (v b c : Nat → Int32) (i : Nat) : dc_c set v b c i i = c i := if_neg (fun h => absurd h.1 (by omega))
theorem dc_vS {set : Int32} {v b : Nat → Int32} {i : Nat} (h : ((set >>> (nI i &&& 31)) &&& 1) = 1) : upd (dc_v set v b i) i (v i) = dc_v set v b (i + 1) := by
  funext j
  by_cases e : j = i
  · rw [e, pk_us]
    exact (if_pos ⟨by omega, h⟩).symm
  · rw [pk_un e]
    show (if _ then _ else _) = (if _ then _ else _)
    by_cases g : j < i ∧ ((set >>> (nI j &&& 31)) &&& 1) = 1
    · rw [if_pos g, if_pos ⟨by omega, g.2⟩]
    · rw [if_neg g, if_neg (fun z => g ⟨by omega, z.2⟩)]
theorem dc_vE {set : Int32} {v b : Nat → Int32} {i : Nat} (h : ¬ ((set >>> (nI i &&& 31)) &&& 1) = 1 ∨ b i = v i) : dc_v set v b i = dc_v set v b (i + 1) := by
  funext j
  show (if _ then _ else _) = (if _ then _ else _)
  by_cases g : j < i ∧ ((set >>> (nI j &&& 31)) &&& 1) = 1
  · rw [if_pos g, if_pos ⟨by omega, g.2⟩]
  · rw [if_neg g]
    by_cases e : j = i
    · by_cases g2 : j < i + 1 ∧ ((set >>> (nI j &&& 31)) &&& 1) = 1
      · rw [if_pos g2, e]
        rcases h with h | h
        · exact absurd (e ▸ g2.2) h
        · exact h
      · rw [if_neg g2]
    · rw [if_neg (fun z => g ⟨by omega, z.2⟩)]
theorem dc_cS {set : Int32} {v b c : Nat → Int32} {i : Nat} (h : ((set >>> (nI i &&& 31)) &&& 1) = 1) (h2 : ¬ b i = v i) : upd (dc_c set v b c i) i (c i + 1) = dc_c set v b c (i + 1) := by
  funext j
  by_cases e : j = i
  · rw [e, pk_us]
    exact (if_pos ⟨by omega, h, h2⟩).symm
  · rw [pk_un e]
    show (if _ then _ else _) = (if _ then _ else _)
    by_cases g : j < i ∧ ((set >>> (nI j &&& 31)) &&& 1) = 1 ∧ ¬ b j = v j
    · rw [if_pos g, if_pos ⟨by omega, g.2⟩]
    · rw [if_neg g, if_neg (fun z => g ⟨by omega, z.2⟩)]
theorem dc_cE {set : Int32} {v b c : Nat → Int32} {i : Nat} (h : ¬ ((set >>> (nI i &&& 31)) &&& 1) = 1 ∨ b i = v i) : dc_c set v b c i = dc_c set v b c (i + 1) := by
  funext j
  show (if _ then _ else _) = (if _ then _ else _)
  by_cases g : j < i ∧ ((set >>> (nI j &&& 31)) &&& 1) = 1 ∧ ¬ b j = v j
  · rw [if_pos g, if_pos ⟨by omega, g.2⟩]
  · rw [if_neg g, if_neg (fun z => g ⟨?_, z.2⟩)]
    rcases Nat.lt_or_ge j i with y | y
    · exact y
    · have e : j = i := by omega
      rcases h with h | h
      · exact absurd (e ▸ z.2.1) h
      · exact absurd (e ▸ h) z.2.2
theorem dc_xY {set : Int32} {v b : Nat → Int32} {i : Nat} (h : ((set >>> (nI i &&& 31)) &&& 1) = 1) : dc_x set v b (i + 1) = dc_x set v b i ||| dc_e (decide (¬ b i = v i)) i := if_pos h
theorem dc_xN {set : Int32} {v b : Nat → Int32} {i : Nat} (h : ¬ ((set >>> (nI i &&& 31)) &&& 1) = 1) : dc_x set v b (i + 1) = dc_x set v b i := if_neg h
/-- a stretch without a set place -/
theorem dc_xG {set : Int32} {v b : Nat → Int32} {i : Nat} : ∀ n, (∀ j, i ≤ j → j < i + n → ¬ ((set >>> (nI j &&& 31)) &&& 1) = 1) → dc_x set v b (i + n) = dc_x set v b i
  | 0, _ => rfl
  | n + 1, h => by
    rw [← Nat.add_assoc, dc_xN (h (i + n) (by omega) (by omega))]
    exact dc_xG n (fun j h1 h2 => h j h1 (by omega))
theorem dc_xG' {set : Int32} {v b : Nat → Int32} {i i' : Nat} (hi : i ≤ i') (h : ∀ j, i ≤ j → j < i' → ¬ ((set >>> (nI j &&& 31)) &&& 1) = 1) : dc_x set v b i' = dc_x set v b i := by
  have e := dc_xG (set := set) (v := v) (b := b) (i := i) (i' - i) (fun j h1 h2 => h j h1 (by omega))
  rwa [show i + (i' - i) = i' by omega] at e
/-- one place set -/
theorem dc_x1 {v b : Nat → Int32} {k : Nat} (hk : k < 12) : dc_x (dc_b k) v b 12 = dc_e (decide (¬ b k = v k)) k := by
  rw [dc_xG' (i := k + 1) (by omega) (fun j h1 h2 z => absurd ((dc_bb k hk j h2).mp z) (by omega)),
    dc_xY ((dc_bb k hk k hk).mpr rfl),
    dc_xG' (i := 0) (by omega) (fun j h1 h2 z => absurd ((dc_bb k hk j (by omega)).mp z) (by omega))]
  exact Int32.zero_or
theorem dc_v1 {v b : Nat → Int32} {k : Nat} (hk : k < 12) : dc_v (dc_b k) v b 12 = upd b k (v k) := by
  funext j
  by_cases e : j = k
  · rw [e, pk_us]
    exact if_pos ⟨hk, (dc_bb k hk k hk).mpr rfl⟩
  · rw [pk_un e]
    exact if_neg (fun z => e ((dc_bb k hk j z.1).mp z.2))
theorem dc_c1 {v b c : Nat → Int32} {k : Nat} (hk : k < 12) {j : Nat} (e : j ≠ k) : dc_c (dc_b k) v b c 12 j = c j :=
  if_neg (fun z => e ((dc_bb k hk j z.1).mp z.2.1))
theorem dc_c1k {v b c : Nat → Int32} {k : Nat} (hk : k < 12) : dc_c (dc_b k) v b c 12 k = c k + dc_o (decide (¬ b k = v k)) := by
  by_cases h : b k = v k
  · rw [show dc_c (dc_b k) v b c 12 k = c k from if_neg (fun z => z.2.2 h), decide_eq_false (p := ¬ b k = v k) (fun z => z h)]
    exact (Int32.add_zero _).symm
  · rw [show dc_c (dc_b k) v b c 12 k = c k + 1 from if_pos ⟨hk, (dc_bb k hk k hk).mpr rfl, h⟩, decide_eq_true (p := ¬ b k = v k) h]
    rfl
/-- the three driven signals -/
theorem dc_x3 {v b : Nat → Int32} {m : Nat} (hm : m < 4) : dc_x (dc_set m) v b 12 = dc_ch m (decide (¬ b m = v m)) (decide (¬ b (4 + m) = v (4 + m))) (decide (¬ b (8 + m) = v (8 + m))) := by
  have B := dc_setb m hm
  rw [dc_xG' (i := 8 + m + 1) (by omega) (fun j h1 h2 z => absurd ((B j h2).mp z) (by omega)),
    dc_xY ((B (8 + m) (by omega)).mpr (by omega)),
    dc_xG' (i := 4 + m + 1) (by omega) (fun j h1 h2 z => absurd ((B j (by omega)).mp z) (by omega)),
    dc_xY ((B (4 + m) (by omega)).mpr (by omega)),
    dc_xG' (i := m + 1) (by omega) (fun j h1 h2 z => absurd ((B j (by omega)).mp z) (by omega)),
    dc_xY ((B m (by omega)).mpr (by omega)),
    dc_xG' (i := 0) (by omega) (fun j h1 h2 z => absurd ((B j (by omega)).mp z) (by omega))]
  rfl
theorem dc_v3 {v b : Nat → Int32} {m j : Nat} (hm : m < 4) (hj : j < 12) (h : j = m ∨ j = 4 + m ∨ j = 8 + m) : dc_v (dc_set m) v b 12 j = v j := if_pos ⟨hj, (dc_setb m hm j hj).mpr h⟩
theorem dc_v3n {v b : Nat → Int32} {m j : Nat} (hm : m < 4) (h : ¬ (j = m ∨ j = 4 + m ∨ j = 8 + m)) : dc_v (dc_set m) v b 12 j = b j := if_neg (fun z => h ((dc_setb m hm j z.1).mp z.2))
theorem dc_c3n {v b c : Nat → Int32} {m j : Nat} (hm : m < 4) (h : ¬ (j = m ∨ j = 4 + m ∨ j = 8 + m)) : dc_c (dc_set m) v b c 12 j = c j := if_neg (fun z => h ((dc_setb m hm j z.1).mp z.2.1))
/-- the law's due -/
def dc_due (k : Nat) (x y s c : Int32) : Int32 :=
  match k with
  | 0 => x + y
  | 1 => x &&& y
  | 2 => x ^^^ y
  | 3 => x + c
  | 4 => if s = 0 then y else x
  | _ => x ^^^ (-1)
theorem dc_ne : ∀ k, k < 12 → ∀ c : Bool, dc_n (dc_e c k) 12 = dc_o c := by decide +kernel
/-- a row of the processes: kind k, the signals i0 .. i3, delay n, constant c, watched w -/
def dc_R (p k i0 i1 i2 i3 n : Nat) (c w : Int32) (a3 a4 a5 a6 a7 : Nat → Int32) : Prop :=
  a3 p = nI k ∧ a4 p = nI n ∧ dc_pt (a5 p) i0 i1 i2 i3 ∧ a6 p = c ∧ a7 p = w ∧ p < 8 ∧ k < 6 ∧ n < 10 ∧ i0 < 12 ∧ i1 < 12 ∧ i2 < 12 ∧ i3 < 12
end
section
section
variable {pr ti dn ds : Int32} {a1 a2 a3 a4 a5 a6 a7 a8 a9 a10 : Nat → Int32}
theorem dc_bits {post : Int32 → Prop} {x : Int32} (hp : post (dc_n x 12)) : wpX_bits post () x :=
  pk_loop (fun n i s => wX_bits_4 post x n s (nI i)) (fun i s => s = dc_n x i) 12 0 0 (by omega) rfl
    (fun n s h => pk_le 12 12 (fun _ => ek_v (P := post) h hp) (fun z => absurd z (by omega)))
    (fun n i s hi h hw => pk_le 12 i (fun z => absurd z (by omega)) (fun _ => nm_e (nm_r (nI_1 i) (hw _ (by subst h; rfl)))))
theorem dc_bad {post : Int32 → Prop} {k : Nat} (hk : k < 12) (hp : post 0) : wpX_bad post () (nI k) :=
  br_f (nI_pos (by omega)) (br_t (nI_lt (b := 12) hk (by decide)) hp)
theorem dc_bad' {post : Int32 → Prop} {x : Int32} {k : Nat} (hx : x = nI k) (hk : k < 12) (hp : post 0) : wpX_bad post () x := by
  rw [hx]
  exact dc_bad hk hp
theorem dc_slot {post : Int32 → Prop} {T n : Nat} (h : T + n < 1000) (hp : post (nI ((T + n) % 10))) : wpX_slotAfter post (pr, nI T, dn, ds, a1, a2, a3, a4, a5, a6, a7, a8, a9, a10) (nI n) := by
  have e : (nI T + nI n) - (nI T + nI n) / 10 * 10 = nI ((T + n) % 10) := by
    rw [nI_add]
    exact pk_rem (d := 10) (by omega) (by decide) (by decide)
  exact ⟨(by decide : ¬ (10 : Int32) = 0), ek_v (P := post) e hp⟩
theorem dc_slot0 {post : Int32 → Prop} {T : Nat} (h : T < 1000) (hp : post (nI (T % 10))) : wpX_slotAfter post (pr, nI T, dn, ds, a1, a2, a3, a4, a5, a6, a7, a8, a9, a10) 0 :=
  dc_slot (n := 0) (by omega) hp
theorem dc_next0 {post : Int32 → Prop} (h : ¬ ds = 0) (hp : post 0) : wpX_nextUnits post (pr, ti, dn, ds, a1, a2, a3, a4, a5, a6, a7, a8, a9, a10) := br_f h hp
theorem dc_nextQ {post : Int32 → Prop} {T : Nat} (hT : T < 900) (h : ds = 0) (hz : dc_Z a9) (hp : post (-1)) : wpX_nextUnits post (pr, nI T, dn, ds, a1, a2, a3, a4, a5, a6, a7, a8, a9, a10) :=
  br_t h (pk_loop (σ := Unit) (fun n i _ => wX_nextUnits_11 post pr (nI T) dn ds a1 a2 a3 a4 a5 a6 a7 a8 a9 a10 n (nI i)) (fun _ _ => True) 10 1 () (by omega) trivial
    (fun n _ _ => pk_le 10 10 (fun _ => hp) (fun z => absurd z (by omega)))
    (fun n i _ hi _ hw => pk_le 10 i (fun z => absurd z (by omega)) (fun _ => dc_slot (by omega) ⟨pk_in ((T + i) % 10) 10 (by omega), br_t (by rw [dc_cl (by omega)]; exact hz _ (by omega)) (nm_r (nI_1 i) (hw () trivial))⟩)))
theorem dc_nextP {post : Int32 → Prop} {T k n : Nat} {v : Int32} (hT : T < 900) (hk : k < 12) (hn : n < 10) (hP : dc_P T k n v ds a8 a9 a10) (hp : post (nI n)) : wpX_nextUnits post (pr, nI T, dn, ds, a1, a2, a3, a4, a5, a6, a7, a8, a9, a10) := by
  rcases hP with ⟨h0, h1, _, _⟩ | ⟨h0, h1, h2, _⟩
  · subst h0
    exact dc_next0 (by rw [h1]; exact dc_bne k hk) hp
  · refine br_t h1 (pk_loop (σ := Unit) (fun j i _ => wX_nextUnits_11 post pr (nI T) dn ds a1 a2 a3 a4 a5 a6 a7 a8 a9 a10 j (nI i)) (fun _ _ => True) n 1 () (by omega) trivial ?_ ?_)
    · intro j _ _
      refine pk_le 10 n (fun z => absurd z (by omega)) (fun _ => dc_slot (by omega) ⟨pk_in ((T + n) % 10) 10 (by omega), br_f ?_ hp⟩)
      rw [dc_cl (by omega), h2 _ (by omega), if_pos rfl]
      exact dc_bne k hk
    · intro j i _ hi _ hw
      refine pk_le 10 i (fun z => absurd z (by omega)) (fun _ => dc_slot (by omega) ⟨pk_in ((T + i) % 10) 10 (by omega), br_t ?_ (nm_r (nI_1 i) (hw () trivial))⟩)
      rw [dc_cl (by omega), h2 _ (by omega), if_neg (by omega)]
theorem dc_chg {post : Int32 → St2 → Prop} {k : Nat} {v : Int32} (hk : k < 12) (h0 : a1 k = v → post 0 (pr, ti, dn, ds, a1, a2, a3, a4, a5, a6, a7, a8, a9, a10)) (h1 : ¬ a1 k = v → post (dc_b k) (pr, ti, dn, ds, upd a1 k v, upd a2 k (a2 k + 1), a3, a4, a5, a6, a7, a8, a9, a10)) : wpX_changeBit post (pr, ti, dn, ds, a1, a2, a3, a4, a5, a6, a7, a8, a9, a10) (nI k) v := by
  unfold wpX_changeBit wpX_update
  try dsimp only
  rw [dc_cl (by omega)]
  exact ⟨pk_in k 12 hk, br_c (fun h => br_t rfl (h0 h)) (fun h => ⟨pk_in k 12 hk, nm_e ⟨pk_in k 12 hk, pk_in k 12 hk, nm_e (br_f (by decide) (h1 h))⟩⟩)⟩
theorem dc_pend {post : Int32 → Prop} (hp : post (dc_pn ds a9 10)) : wpX_pending post (pr, ti, dn, ds, a1, a2, a3, a4, a5, a6, a7, a8, a9, a10) := by
  unfold wpX_pending
  try dsimp only
  refine dc_bits (pk_loop (fun n i s => wX_pending_10 post pr ti dn ds a1 a2 a3 a4 a5 a6 a7 a8 a9 a10 n s (nI i)) (fun i s => s = dc_pn ds a9 i) 10 0 (dc_n ds 12) (by omega) rfl ?_ ?_)
  · intro n s h
    exact pk_le 10 10 (fun _ => ek_v (P := post) h hp) (fun z => absurd z (by omega))
  · intro n i s hi h hw
    refine pk_le 10 i (fun z => absurd z (by omega)) (fun _ => ⟨pk_in i 10 hi, dc_bits (nm_r (e' := dc_pn ds a9 (i + 1)) ?_ (nm_r (nI_1 i) (hw _ rfl)))⟩)
    rw [dc_cl (by omega), show s = dc_pn ds a9 i from h]
    rfl
theorem dc_value {post : Int32 → Prop} {k : Nat} (hk : k < 12) (hp : post (a1 k)) : wpX_value post (pr, ti, dn, ds, a1, a2, a3, a4, a5, a6, a7, a8, a9, a10) (nI k) := by
  unfold wpX_value
  try dsimp only
  rw [dc_cl (by omega)]
  exact dc_bad hk (br_t rfl ⟨pk_in k 12 hk, hp⟩)
theorem dc_events {post : Int32 → Prop} {k : Nat} (hk : k < 12) (hp : post (a2 k)) : wpX_events post (pr, ti, dn, ds, a1, a2, a3, a4, a5, a6, a7, a8, a9, a10) (nI k) := by
  unfold wpX_events
  try dsimp only
  rw [dc_cl (by omega)]
  exact dc_bad hk (br_t rfl ⟨pk_in k 12 hk, hp⟩)
theorem dc_nextT {post : Int32 → Prop} {T k n : Nat} {v : Int32} (hT : T < 900) (hk : k < 12) (hn : n < 10) (hP : dc_P T k n v ds a8 a9 a10) (hp : post (nI (T + n))) : wpX_nextTime post (pr, nI T, dn, ds, a1, a2, a3, a4, a5, a6, a7, a8, a9, a10) := by
  unfold wpX_nextTime
  try dsimp only
  refine dc_nextP hT hk hn hP (br_t (nI_pos' (by omega)) ?_)
  rw [nI_add]
  exact hp
theorem dc_comeP {post : Int32 → Prop} {T k n : Nat} {v : Int32} (hT : T < 900) (hk : k < 12) (hn : n < 10) (hP : dc_P T k n v ds a8 a9 a10) (hp : post v) : wpX_coming post (pr, nI T, dn, ds, a1, a2, a3, a4, a5, a6, a7, a8, a9, a10) (nI k) := by
  unfold wpX_coming
  try dsimp only
  refine dc_bad hk (br_t rfl ?_)
  rcases hP with ⟨h0, h1, h2, h3⟩ | ⟨h0, h1, h2, h3⟩
  · refine br_t (by rw [h1]; exact (dc_bb k hk k hk).mpr rfl) ⟨pk_in k 12 hk, ?_⟩
    rw [dc_cl (by omega), h2]
    exact hp
  · refine br_f (by rw [h1]; exact dc_b0 k hk) (pk_loop (σ := Unit) (fun j i _ => wX_coming_30 post (nI k) pr (nI T) dn ds a1 a2 a3 a4 a5 a6 a7 a8 a9 a10 j (nI i)) (fun _ _ => True) n 1 () (by omega) trivial ?_ ?_)
    · intro j _ _
      refine pk_le 10 n (fun z => absurd z (by omega)) (fun _ => dc_slot (by omega) ⟨pk_in ((T + n) % 10) 10 (by omega), br_t ?_ ⟨pk_in ((T + n) % 10 * 12 + k) 120 (by omega) (dc_ix _ _), ?_⟩⟩)
      · rw [dc_cl (by omega), h2 _ (by omega), if_pos rfl]
        exact (dc_bb k hk k hk).mpr rfl
      · rw [dc_ix, dc_cl (by omega), h3]
        exact hp
    · intro j i _ hi _ hw
      refine pk_le 10 i (fun z => absurd z (by omega)) (fun _ => dc_slot (by omega) ⟨pk_in ((T + i) % 10) 10 (by omega), br_f ?_ (nm_r (nI_1 i) (hw () trivial))⟩)
      rw [dc_cl (by omega), h2 _ (by omega), if_neg (by omega)]
      exact dc_b0 k hk
theorem dc_dueL {post : Int32 → Prop} {k : Nat} {x y s c : Int32} (hk : k < 6) (hp : post (dc_due k x y s c)) : wpL_due post () (nI k) x y s c := by
  match k, hk, hp with
  | 0, _, hp => exact br_t rfl hp
  | 1, _, hp => exact br_f (by decide) (br_t rfl hp)
  | 2, _, hp => exact br_f (by decide) (br_f (by decide) (br_t rfl hp))
  | 3, _, hp => exact br_f (by decide) (br_f (by decide) (br_f (by decide) (br_t rfl hp)))
  | 4, _, hp => exact br_f (by decide) (br_f (by decide) (br_f (by decide) (br_f (by decide) (br_t rfl (br_c (fun e => ek_v (P := post) (show y = dc_due 4 x y s c from (if_pos e).symm) hp) (fun e => ek_v (P := post) (show x = dc_due 4 x y s c from (if_neg e).symm) hp))))))
  | 5, _, hp => exact br_f (by decide) (br_f (by decide) (br_f (by decide) (br_f (by decide) (br_f (by decide) hp))))
  | n + 6, h, _ => exact absurd h (by omega)
end
end
section
section
variable {pr ti dn ds : Int32} {a1 a2 a3 a4 a5 a6 a7 a8 a9 a10 : Nat → Int32}
theorem dc_take19 {post : Int32 → St2 → Prop} {set : Int32} (hp : post (dc_x set a8 a1 12) (pr, ti, dn, ds, dc_v set a8 a1 12, dc_c set a8 a1 a2 12, a3, a4, a5, a6, a7, a8, a9, a10)) : ∃ n, wX_takeChanges_19 post set n 0 0 pr ti dn ds a1 a2 a3 a4 a5 a6 a7 a8 a9 a10 := by
  refine pk_loop (σ := Int32 × (Nat → Int32) × (Nat → Int32)) (fun n i s => wX_takeChanges_19 post set n s.1 (nI i) pr ti dn ds s.2.1 s.2.2 a3 a4 a5 a6 a7 a8 a9 a10) (fun i s => s = (dc_x set a8 a1 i, dc_v set a8 a1 i, dc_c set a8 a1 a2 i)) 12 0 (0, a1, a2) (by omega) (Prod.ext rfl (Prod.ext (dc_v0 set a8 a1).symm (dc_c0 set a8 a1 a2).symm)) ?_ ?_
  · intro n s h
    subst h
    exact pk_le 12 12 (fun _ => hp) (fun z => absurd z (by omega))
  · intro n i s hi h hw
    have hw' : wX_takeChanges_19 post set n (dc_x set a8 a1 (i + 1)) (nI (i + 1)) pr ti dn ds (dc_v set a8 a1 (i + 1)) (dc_c set a8 a1 a2 (i + 1)) a3 a4 a5 a6 a7 a8 a9 a10 := hw _ rfl
    subst h
    show wX_takeChanges_19 post set (n + 1) (dc_x set a8 a1 i) (nI i) pr ti dn ds (dc_v set a8 a1 i) (dc_c set a8 a1 a2 i) a3 a4 a5 a6 a7 a8 a9 a10
    refine pk_le 12 i (fun z => absurd z (by omega)) (fun _ => ?_)
    by_cases hb : ((set >>> (nI i &&& 31)) &&& 1) = 1
    · refine br_t hb ⟨pk_in i 12 hi, dc_chg hi (fun e => nm_e (nm_r (nI_1 i) ?_)) (fun e => nm_e (nm_r (nI_1 i) ?_))⟩
      · rw [dc_cl (by omega), dc_vi] at e
        rw [dc_xY hb, decide_eq_false (p := ¬ a1 i = a8 i) (fun z => z e), ← dc_vE (set := set) (v := a8) (b := a1) (i := i) (Or.inr e), ← dc_cE (set := set) (v := a8) (b := a1) (i := i) (Or.inr e)] at hw'
        exact hw'
      · rw [dc_cl (by omega), dc_vi] at e
        rw [dc_cl (by omega), dc_ci]
        rw [dc_xY hb, decide_eq_true (p := ¬ a1 i = a8 i) e, ← dc_vS (set := set) (v := a8) (b := a1) (i := i) hb, ← dc_cS (set := set) (v := a8) (b := a1) (i := i) hb e] at hw'
        exact hw'
    · refine br_f hb (nm_r (nI_1 i) ?_)
      rw [dc_xN hb, ← dc_vE (set := set) (v := a8) (b := a1) (i := i) (Or.inl hb), ← dc_cE (set := set) (v := a8) (b := a1) (i := i) (Or.inl hb)] at hw'
      exact hw'
theorem dc_take94 {post : Int32 → St2 → Prop} {set : Int32} {q : Nat} {w : Nat → Int32} (hq : q < 10) (hv : ∀ j, j < 12 → a10 (q * 12 + j) = w j) (hp : post (dc_x set w a1 12) (pr, ti, dn, ds, dc_v set w a1 12, dc_c set w a1 a2 12, a3, a4, a5, a6, a7, a8, a9, a10)) : ∃ n, wX_takeChanges_94 post (nI q) set n 0 0 pr ti dn ds a1 a2 a3 a4 a5 a6 a7 a8 a9 a10 := by
  refine pk_loop (σ := Int32 × (Nat → Int32) × (Nat → Int32)) (fun n i s => wX_takeChanges_94 post (nI q) set n s.1 (nI i) pr ti dn ds s.2.1 s.2.2 a3 a4 a5 a6 a7 a8 a9 a10) (fun i s => s = (dc_x set w a1 i, dc_v set w a1 i, dc_c set w a1 a2 i)) 12 0 (0, a1, a2) (by omega) (Prod.ext rfl (Prod.ext (dc_v0 set w a1).symm (dc_c0 set w a1 a2).symm)) ?_ ?_
  · intro n s h
    subst h
    exact pk_le 12 12 (fun _ => hp) (fun z => absurd z (by omega))
  · intro n i s hi h hw
    have hw' : wX_takeChanges_94 post (nI q) set n (dc_x set w a1 (i + 1)) (nI (i + 1)) pr ti dn ds (dc_v set w a1 (i + 1)) (dc_c set w a1 a2 (i + 1)) a3 a4 a5 a6 a7 a8 a9 a10 := hw _ rfl
    subst h
    show wX_takeChanges_94 post (nI q) set (n + 1) (dc_x set w a1 i) (nI i) pr ti dn ds (dc_v set w a1 i) (dc_c set w a1 a2 i) a3 a4 a5 a6 a7 a8 a9 a10
    refine pk_le 12 i (fun z => absurd z (by omega)) (fun _ => ?_)
    have hx : a10 (nI q * 12 + nI i).toNatClampNeg = w i := by
      rw [dc_ix, dc_cl (by omega), hv i hi]
    by_cases hb : ((set >>> (nI i &&& 31)) &&& 1) = 1
    · refine br_t hb ⟨pk_in (q * 12 + i) 120 (by omega) (dc_ix _ _), dc_chg hi (fun e => nm_e (nm_r (nI_1 i) ?_)) (fun e => nm_e (nm_r (nI_1 i) ?_))⟩
      · rw [hx, dc_vi] at e
        rw [dc_xY hb, decide_eq_false (p := ¬ a1 i = w i) (fun z => z e), ← dc_vE (set := set) (v := w) (b := a1) (i := i) (Or.inr e), ← dc_cE (set := set) (v := w) (b := a1) (i := i) (Or.inr e)] at hw'
        exact hw'
      · rw [hx, dc_vi] at e
        rw [hx, dc_ci]
        rw [dc_xY hb, decide_eq_true (p := ¬ a1 i = w i) e, ← dc_vS (set := set) (v := w) (b := a1) (i := i) hb, ← dc_cS (set := set) (v := w) (b := a1) (i := i) hb e] at hw'
        exact hw'
    · refine br_f hb (nm_r (nI_1 i) ?_)
      rw [dc_xN hb, ← dc_vE (set := set) (v := w) (b := a1) (i := i) (Or.inl hb), ← dc_cE (set := set) (v := w) (b := a1) (i := i) (Or.inl hb)] at hw'
      exact hw'
theorem dc_takeP {post : Int32 → St2 → Prop} {T k n : Nat} {v : Int32} (hT : T < 900) (hk : k < 12) (hn : n < 10) (hP : dc_P T k n v ds a8 a9 a10)
    (hp : ∀ b1 b2 b9 : Nat → Int32, dc_Z b9 → b1 = upd a1 k v → (∀ j, j ≠ k → b2 j = a2 j) → b2 k = a2 k + dc_o (decide (¬ a1 k = v)) → post (dc_e (decide (¬ a1 k = v)) k) (pr, nI (T + n), dn, 0, b1, b2, a3, a4, a5, a6, a7, a8, b9, a10)) : wpX_takeChanges post (pr, nI T, dn, ds, a1, a2, a3, a4, a5, a6, a7, a8, a9, a10) (nI n) := by
  rcases hP with ⟨h0, h1, h2, h3⟩ | ⟨h0, h1, h2, h3⟩
  · subst h0
    refine br_t rfl (dc_take19 ?_)
    rw [h1, dc_x1 hk, h2]
    exact hp _ _ _ h3 (by rw [dc_v1 hk, h2]) (fun j e => dc_c1 hk e) (by rw [dc_c1k hk, h2])
  · obtain ⟨w, hw, hwk⟩ : ∃ w : Nat → Int32, (∀ j, j < 12 → a10 ((T + n) % 10 * 12 + j) = w j) ∧ w k = v := ⟨fun j => a10 ((T + n) % 10 * 12 + j), fun _ _ => rfl, h3⟩
    have hs : a9 (nI ((T + n) % 10)).toNatClampNeg = dc_b k := by
      rw [dc_cl (by omega), h2 _ (by omega), if_pos rfl]
    have hz : dc_Z (upd a9 (nI ((T + n) % 10)).toNatClampNeg 0) := by
      rw [dc_cl (by omega)]
      intro i hi
      by_cases e : i = (T + n) % 10
      · rw [e, pk_us]
      · rw [pk_un e, h2 i hi, if_neg e]
    refine br_f (nI_ne0 h0 (by omega)) (nm_r (nI_add T n) (dc_slot0 (by omega) ⟨pk_in ((T + n) % 10) 10 (by omega), nm_r hs ⟨pk_in ((T + n) % 10) 10 (by omega), nm_e (dc_take94 (by omega) hw ?_)⟩⟩))
    rw [dc_x1 hk, hwk, h1]
    exact hp _ _ _ hz (by rw [dc_v1 hk, hwk]) (fun j e => dc_c1 hk e) (by rw [dc_c1k hk, hwk])
/-- the three driven signals are taken -/
theorem dc_take3 {post : Int32 → St2 → Prop} {m : Nat} (hm : m < 4) (hd : ds = dc_set m)
    (hp : post (dc_ch m (decide (¬ a1 m = a8 m)) (decide (¬ a1 (4 + m) = a8 (4 + m))) (decide (¬ a1 (8 + m) = a8 (8 + m)))) (pr, ti, dn, 0, dc_v (dc_set m) a8 a1 12, dc_c (dc_set m) a8 a1 a2 12, a3, a4, a5, a6, a7, a8, a9, a10)) : wpX_takeChanges post (pr, ti, dn, ds, a1, a2, a3, a4, a5, a6, a7, a8, a9, a10) 0 := by
  subst hd
  refine br_t rfl (dc_take19 ?_)
  rw [dc_x3 hm]
  exact hp
theorem dc_put0 {post : St2 → Prop} {T k : Nat} {v : Int32} (hT : T < 900) (hk : k < 12) (hz : dc_Z a9) (hp : ∀ b9, dc_Z b9 → post (pr, nI T, dn, ds ||| dc_b k, a1, a2, a3, a4, a5, a6, a7, upd a8 k v, b9, a10)) : wpX_putDown post (pr, nI T, dn, ds, a1, a2, a3, a4, a5, a6, a7, a8, a9, a10) (nI k) v 0 := by
  refine nm_e (br_t (by decide) (pk_loop (fun n i s => wX_putDown_16 post (nI k) v 0 (dc_b k) pr (nI T) dn ds n (nI i) a1 a2 a3 a4 a5 a6 a7 a8 s a10) (fun _ s => dc_Z s) 10 1 a9 (by omega) hz ?_ ?_))
  · intro n s h
    exact pk_le 10 10 (fun _ => br_t rfl (nm_e ⟨pk_in k 12 hk, nm_r (by rw [dc_cl (by omega)]) (hp s h)⟩)) (fun z => absurd z (by omega))
  · intro n i s hi h hw
    exact pk_le 10 i (fun z => absurd z (by omega)) (fun _ => dc_slot (by omega) ⟨pk_in ((T + i) % 10) 10 (by omega), pk_in ((T + i) % 10) 10 (by omega), nm_e (nm_r (nI_1 i) (hw _ (dc_Zc (by omega) h _)))⟩)
theorem dc_putN {post : St2 → Prop} {T k n : Nat} {v : Int32} (hT : T < 900) (hk : k < 12) (h0 : 0 < n) (hn : n < 10) (hz : dc_Z a9)
    (hp : ∀ b9 : Nat → Int32, (∀ i, i < 10 → b9 i = if i = (T + n) % 10 then dc_b k else 0) → post (pr, nI T, dn, ds, a1, a2, a3, a4, a5, a6, a7, a8, b9, upd a10 ((T + n) % 10 * 12 + k) v)) : wpX_putDown post (pr, nI T, dn, ds, a1, a2, a3, a4, a5, a6, a7, a8, a9, a10) (nI k) v (nI n) := by
  refine nm_e (br_f (nI_nle h0 (by omega)) (pk_loop (fun j i s => wX_putDown_16 post (nI k) v (nI n) (dc_b k) pr (nI T) dn ds j (nI i) a1 a2 a3 a4 a5 a6 a7 a8 s a10) (fun _ s => dc_Z s) 10 n a9 (by omega) hz ?_ ?_))
  · intro j s h
    refine pk_le 10 10 (fun _ => br_f (nI_ne0 h0 (by omega)) (dc_slot (by omega) ⟨pk_in ((T + n) % 10) 10 (by omega), pk_in ((T + n) % 10) 10 (by omega), nm_e ⟨pk_in ((T + n) % 10 * 12 + k) 120 (by omega) (dc_ix _ _), nm_r (by rw [dc_ix, dc_cl (by omega)]) (hp _ ?_)⟩⟩)) (fun z => absurd z (by omega))
    intro i hi
    rw [dc_cl (by omega)]
    by_cases e : i = (T + n) % 10
    · rw [if_pos e, e, pk_us, h _ (by omega)]
      exact Int32.zero_or
    · rw [if_neg e, pk_un e]
      exact h i hi
  · intro j i s hi h hw
    exact pk_le 10 i (fun z => absurd z (by omega)) (fun _ => dc_slot (by omega) ⟨pk_in ((T + i) % 10) 10 (by omega), pk_in ((T + i) % 10) 10 (by omega), nm_e (nm_r (nI_1 i) (hw _ (dc_Zc (by omega) h _)))⟩)
theorem dc_put {post : St2 → Prop} {T k n : Nat} {v : Int32} (hT : T < 900) (hk : k < 12) (hn : n < 10) (hd : ds = 0) (hz : dc_Z a9)
    (hp : ∀ (d' : Int32) (b8 b9 b10 : Nat → Int32), dc_P T k n v d' b8 b9 b10 → post (pr, nI T, dn, d', a1, a2, a3, a4, a5, a6, a7, b8, b9, b10)) : wpX_putDown post (pr, nI T, dn, ds, a1, a2, a3, a4, a5, a6, a7, a8, a9, a10) (nI k) v (nI n) := by
  rcases Nat.eq_zero_or_pos n with e | e
  · subst e
    exact dc_put0 hT hk hz (fun b9 h9 => hp _ _ _ _ (Or.inl ⟨rfl, by rw [hd]; exact Int32.zero_or, pk_us, h9⟩))
  · exact dc_putN hT hk e hn hz (fun b9 h9 => hp _ _ _ _ (Or.inr ⟨e, hd, h9, pk_us⟩))
theorem dc_part {post : Int32 → Prop} {p i : Nat} {x : Int32} (hp : p < 8) (h : ((a5 p >>> ((4 * x) &&& 31)) &&& 15) = nI i) (hq : post (nI i)) : wpX_part post (pr, ti, dn, ds, a1, a2, a3, a4, a5, a6, a7, a8, a9, a10) (nI p) x :=
  ⟨pk_in p 8 hp, ek_v (P := post) (by rw [dc_cl (by omega)]; exact h) hq⟩
theorem dc_res {post : Int32 → Prop} {p k i0 i1 i2 i3 n : Nat} {c w : Int32} (hR : dc_R p k i0 i1 i2 i3 n c w a3 a4 a5 a6 a7) (hq : post (dc_due k (a1 i0) (a1 i1) (a1 i2) c)) : wpX_result post (pr, ti, dn, ds, a1, a2, a3, a4, a5, a6, a7, a8, a9, a10) (nI p) := by
  obtain ⟨r3, r4, r5, r6, r7, hp8, k6, hn, h0, h1, h2, h3⟩ := hR
  unfold wpX_result
  try dsimp only
  refine dc_part hp8 r5.1 ⟨pk_in i0 12 h0, nm_r (congrArg a1 (dc_cl (by omega))) (dc_part hp8 r5.2.1 ⟨pk_in i1 12 h1, nm_r (congrArg a1 (dc_cl (by omega))) ⟨pk_in p 8 hp8, nm_r (show a3 (nI p).toNatClampNeg = nI k by rw [dc_cl (by omega), r3]) ?_⟩⟩)⟩
  match k, k6, hq with
  | 0, _, hq => exact br_f (by decide) (br_f (by decide) (br_t rfl hq))
  | 1, _, hq => exact br_f (by decide) (br_f (by decide) (br_f (by decide) (br_t rfl hq)))
  | 2, _, hq => exact br_f (by decide) (br_f (by decide) (br_f (by decide) (br_f (by decide) (br_t rfl hq))))
  | 3, _, hq =>
    refine br_f (by decide) (br_f (by decide) (br_f (by decide) (br_f (by decide) (br_f (by decide) (br_t rfl ⟨pk_in p 8 hp8, ?_⟩)))))
    rw [dc_cl (by omega), r6]
    exact hq
  | 4, _, hq =>
    refine br_f (by decide) (br_f (by decide) (br_f (by decide) (br_f (by decide) (br_f (by decide) (br_f (by decide) (br_t rfl (dc_part hp8 r5.2.2.1 ⟨pk_in i2 12 h2, ?_⟩)))))))
    rw [dc_cl (by omega)]
    exact br_c (fun e => ek_v (P := post) (show a1 i1 = dc_due 4 (a1 i0) (a1 i1) (a1 i2) c from (if_pos e).symm) hq) (fun e => ek_v (P := post) (show a1 i0 = dc_due 4 (a1 i0) (a1 i1) (a1 i2) c from (if_neg e).symm) hq)
  | 5, _, hq => exact br_f (by decide) (br_t (by decide) hq)
  | j + 6, h, _ => exact absurd h (by omega)
theorem dc_carry {post : St2 → Prop} {T p k i0 i1 i2 i3 n : Nat} {c w : Int32} (hT : T < 900) (hR : dc_R p k i0 i1 i2 i3 n c w a3 a4 a5 a6 a7) (hd : ds = 0) (hz : dc_Z a9)
    (hq : ∀ (d' : Int32) (b8 b9 b10 : Nat → Int32), dc_P T i3 n (dc_due k (a1 i0) (a1 i1) (a1 i2) c) d' b8 b9 b10 → post (pr, nI T, dn, d', a1, a2, a3, a4, a5, a6, a7, b8, b9, b10)) : wpX_carryOut post (pr, nI T, dn, ds, a1, a2, a3, a4, a5, a6, a7, a8, a9, a10) (nI p) := by
  have hR' := hR
  obtain ⟨r3, r4, r5, r6, r7, hp8, k6, hn, h0, h1, h2, h3⟩ := hR
  unfold wpX_carryOut
  try dsimp only
  refine dc_res hR' (dc_part hp8 r5.2.2.2 ⟨pk_in p 8 hp8, ?_⟩)
  rw [show a4 (nI p).toNatClampNeg = nI n by rw [dc_cl (by omega), r4]]
  exact dc_put hT h3 hn hd hz hq
theorem dc_poke {post : Int32 → St2 → Prop} {T p k i0 i1 i2 i3 n : Nat} {c w : Int32} (hT : T < 900) (hR : dc_R p k i0 i1 i2 i3 n c w a3 a4 a5 a6 a7) (hp : p < 2) (hd : ds = 0) (hz : dc_Z a9)
    (hq : ∀ (d' : Int32) (b8 b9 b10 : Nat → Int32), dc_P T i3 n (dc_due k (a1 i0) (a1 i1) (a1 i2) c) d' b8 b9 b10 → post 1 (2, nI T, dn, d', a1, a2, a3, a4, a5, a6, a7, b8, b9, b10)) : wpX_poke post (2, nI T, dn, ds, a1, a2, a3, a4, a5, a6, a7, a8, a9, a10) (nI p) := by
  refine br_f (nI_pos (by omega)) (br_t (nI_lt (b := 2) hp (by decide)) (dc_carry hT hR hd hz (fun d' b8 b9 b10 hP => dc_pend ?_)))
  rw [dc_pnP hR.2.2.2.2.2.2.2.2.2.2.2 hP]
  exact hq d' b8 b9 b10 hP
theorem dc_proc {post : Int32 → St2 → Prop} {p k d i0 i1 i2 i3 : Nat} {h x c w : Int32} (hp : p < 8) (hk : k < 6) (hd : d < 10) (hh : h &&& 7 = nI k) (hh2 : (h >>> ((4 : Int32) &&& 31)) &&& 15 = nI d) (hx : dc_pt x i0 i1 i2 i3) (h0 : i0 < 12) (h1 : i1 < 12) (h2 : i2 < 12) (h3 : i3 < 12)
    (hq : post (nI p) (nI (p + 1), ti, dn, ds, a1, a2, upd a3 p (nI k), upd a4 p (nI d), upd a5 p x, upd a6 p c, upd a7 p (w &&& 4095), a8, a9, a10)) : wpX_process post (nI p, ti, dn, ds, a1, a2, a3, a4, a5, a6, a7, a8, a9, a10) h x c w := by
  have U : ∀ (f : Nat → Int32) (y : Int32), upd f (nI p).toNatClampNeg y = upd f p y := fun f y => by rw [dc_cl (by omega)]
  refine ⟨5, br_f (by decide) (dc_bad' hx.1 h0 (br_t rfl (nm_r (e' := 1) (by decide) (br_f (by decide) (dc_bad' hx.2.1 h1 (br_t rfl (nm_r (e' := 2) (by decide) (br_f (by decide) (dc_bad' hx.2.2.1 h2 (br_t rfl (nm_r (e' := 3) (by decide) (br_f (by decide) (dc_bad' hx.2.2.2 h3 (br_t rfl (nm_r (e' := 4) (by decide) (br_t (by decide) ?_))))))))))))))))⟩
  refine nm_r hh (nm_r hh2 (br_t (nI_le (b := 5) (by omega) (by decide)) (br_t (nI_le (b := 9) (by omega) (by decide)) (br_t (nI_lt (b := 8) hp (by decide)) ?_))))
  exact ⟨pk_in p 8 hp, nm_r (U a3 _) ⟨pk_in p 8 hp, nm_r (U a4 _) ⟨pk_in p 8 hp, nm_r (U a5 _) ⟨pk_in p 8 hp, nm_r (U a6 _) ⟨pk_in p 8 hp, nm_r (U a7 _) (nm_r (nI_1 p) hq)⟩⟩⟩⟩⟩
theorem dc_drive {post : Int32 → St2 → Prop} {T k : Nat} {v : Int32} (hT : T < 900) (hk : k < 12) (hz : dc_Z a9) (hp : ∀ b9, dc_Z b9 → post (dc_n (ds ||| dc_b k) 12) (pr, nI T, dn, ds ||| dc_b k, a1, a2, a3, a4, a5, a6, a7, upd a8 k v, b9, a10)) : wpX_drive post (pr, nI T, dn, ds, a1, a2, a3, a4, a5, a6, a7, a8, a9, a10) (nI k) v 0 := by
  unfold wpX_drive
  try dsimp only
  refine dc_bad hk (br_t rfl (br_f (by decide) (br_t (by decide) (dc_put0 hT hk hz (fun b9 h9 => dc_pend ?_)))))
  rw [dc_pnZ h9 10 (by omega)]
  exact hp b9 h9
end
end
section
section
variable {pr ti dn ds : Int32} {a1 a2 a3 a4 a5 a6 a7 a8 a9 a10 : Nat → Int32}
theorem dc_cl1 : (1 : Int32).toNatClampNeg = 1 := by decide +kernel
/-- no process is woken -/
theorem dc_30n {post : Int32 → St2 → Prop} {x : Int32} (h0 : a7 0 &&& x = 0) (h1 : a7 1 &&& x = 0) (hp : post (dc_n x 12) (2, ti, dn, ds, a1, a2, a3, a4, a5, a6, a7, a8, a9, a10)) : ∃ n, wX_step_30 post x n 0 2 ti dn ds a1 a2 a3 a4 a5 a6 a7 a8 a9 a10 :=
  ⟨3, br_f (by decide) ⟨pk_in 0 8 (by omega), br_t (by rw [sb_cl0]; exact h0) (nm_r (e' := 1) (by decide) (br_f (by decide) ⟨pk_in 1 8 (by omega), br_t (by rw [dc_cl1]; exact h1) (nm_r (e' := 2) (by decide) (br_t (by decide) (dc_bits hp)))⟩))⟩⟩
/-- process 0 alone is woken -/
theorem dc_30a {post : Int32 → St2 → Prop} {x : Int32} {T k i0 i1 i2 i3 n : Nat} {c w : Int32} (hT : T < 900) (hR : dc_R 0 k i0 i1 i2 i3 n c w a3 a4 a5 a6 a7) (hd : ds = 0) (hz : dc_Z a9) (h0 : ¬ a7 0 &&& x = 0) (h1 : a7 1 &&& x = 0)
    (hp : ∀ (d' : Int32) (b8 b9 b10 : Nat → Int32), dc_P T i3 n (dc_due k (a1 i0) (a1 i1) (a1 i2) c) d' b8 b9 b10 → post (dc_n x 12) (2, nI T, dn, d', a1, a2, a3, a4, a5, a6, a7, b8, b9, b10)) : ∃ n, wX_step_30 post x n 0 2 (nI T) dn ds a1 a2 a3 a4 a5 a6 a7 a8 a9 a10 :=
  ⟨3, br_f (by decide) ⟨pk_in 0 8 (by omega), br_f (by rw [sb_cl0]; exact h0) (dc_carry (p := 0) hT hR hd hz (fun d' b8 b9 b10 hP => nm_r (e' := 1) (by decide) (br_f (by decide) ⟨pk_in 1 8 (by omega), br_t (by rw [dc_cl1]; exact h1) (nm_r (e' := 2) (by decide) (br_t (by decide) (dc_bits (hp d' b8 b9 b10 hP))))⟩)))⟩⟩
/-- process 1 alone is woken -/
theorem dc_30b {post : Int32 → St2 → Prop} {x : Int32} {T k i0 i1 i2 i3 n : Nat} {c w : Int32} (hT : T < 900) (hR : dc_R 1 k i0 i1 i2 i3 n c w a3 a4 a5 a6 a7) (hd : ds = 0) (hz : dc_Z a9) (h0 : a7 0 &&& x = 0) (h1 : ¬ a7 1 &&& x = 0)
    (hp : ∀ (d' : Int32) (b8 b9 b10 : Nat → Int32), dc_P T i3 n (dc_due k (a1 i0) (a1 i1) (a1 i2) c) d' b8 b9 b10 → post (dc_n x 12) (2, nI T, dn, d', a1, a2, a3, a4, a5, a6, a7, b8, b9, b10)) : ∃ n, wX_step_30 post x n 0 2 (nI T) dn ds a1 a2 a3 a4 a5 a6 a7 a8 a9 a10 :=
  ⟨3, br_f (by decide) ⟨pk_in 0 8 (by omega), br_t (by rw [sb_cl0]; exact h0) (nm_r (e' := 1) (by decide) (br_f (by decide) ⟨pk_in 1 8 (by omega), br_f (by rw [dc_cl1]; exact h1) (dc_carry (p := 1) hT hR hd hz (fun d' b8 b9 b10 hP => nm_r (e' := 2) (by decide) (br_t (by decide) (dc_bits (hp d' b8 b9 b10 hP)))))⟩))⟩⟩
/-- a step where one change is due -/
theorem dc_stepP {post : Int32 → St2 → Prop} {T k n : Nat} {v : Int32} (hT : T < 900) (hk : k < 12) (hn : n < 10) (hP : dc_P T k n v ds a8 a9 a10)
    (hp : ∀ b1 b2 b9 : Nat → Int32, dc_Z b9 → b1 = upd a1 k v → (∀ j, j ≠ k → b2 j = a2 j) → b2 k = a2 k + dc_o (decide (¬ a1 k = v)) → ∃ fu, wX_step_30 post (dc_e (decide (¬ a1 k = v)) k) fu 0 pr (nI (T + n)) (dn + 1) 0 b1 b2 a3 a4 a5 a6 a7 a8 b9 a10) : wpX_step post (pr, nI T, dn, ds, a1, a2, a3, a4, a5, a6, a7, a8, a9, a10) := by
  unfold wpX_step
  try dsimp only
  exact dc_nextP hT hk hn hP (br_t (nI_pos' (by omega)) (dc_takeP hT hk hn hP (fun b1 b2 b9 hz e1 e2 e3 => nm_e (hp b1 b2 b9 hz e1 e2 e3))))
/-- a step with nothing due -/
theorem dc_stepQ {post : Int32 → St2 → Prop} {T : Nat} (hT : T < 900) (hd : ds = 0) (hz : dc_Z a9) (hp : post (-5) (pr, nI T, dn, ds, a1, a2, a3, a4, a5, a6, a7, a8, a9, a10)) : wpX_step post (pr, nI T, dn, ds, a1, a2, a3, a4, a5, a6, a7, a8, a9, a10) := by
  unfold wpX_step
  try dsimp only
  exact dc_nextQ hT hd hz (br_f (by decide) hp)
/-- the first step: three changes in the next delta cycle -/
theorem dc_step3 {post : Int32 → St2 → Prop} {m : Nat} (hm : m < 4) (hd : ds = dc_set m)
    (hp : ∃ fu, wX_step_30 post (dc_ch m (decide (¬ a1 m = a8 m)) (decide (¬ a1 (4 + m) = a8 (4 + m))) (decide (¬ a1 (8 + m) = a8 (8 + m)))) fu 0 pr ti (dn + 1) 0 (dc_v (dc_set m) a8 a1 12) (dc_c (dc_set m) a8 a1 a2 12) a3 a4 a5 a6 a7 a8 a9 a10) : wpX_step post (pr, ti, dn, ds, a1, a2, a3, a4, a5, a6, a7, a8, a9, a10) := by
  unfold wpX_step
  try dsimp only
  exact dc_next0 (by rw [hd]; exact (dc_set1 m hm).2.2.2.2) (br_t (by decide) (dc_take3 hm hd (nm_e hp)))
theorem dc_we {w : Int32} {k : Nat} (h : w &&& dc_b k = 0) : ∀ c : Bool, w &&& dc_e c k = 0
  | true => h
  | false => Int32.and_zero
/-- a step where one change is due and no process watches its signal -/
theorem dc_stepN {post : Int32 → St2 → Prop} {T k n : Nat} {v : Int32} (hT : T < 900) (hk : k < 12) (hn : n < 10) (hP : dc_P T k n v ds a8 a9 a10) (h0 : a7 0 &&& dc_b k = 0) (h1 : a7 1 &&& dc_b k = 0)
    (hp : ∀ b1 b2 b9 : Nat → Int32, dc_Z b9 → b1 = upd a1 k v → (∀ j, j ≠ k → b2 j = a2 j) → b2 k = a2 k + dc_o (decide (¬ a1 k = v)) → post (dc_o (decide (¬ a1 k = v))) (2, nI (T + n), dn + 1, 0, b1, b2, a3, a4, a5, a6, a7, a8, b9, a10)) : wpX_step post (2, nI T, dn, ds, a1, a2, a3, a4, a5, a6, a7, a8, a9, a10) :=
  dc_stepP hT hk hn hP (fun b1 b2 b9 hz e1 e2 e3 => dc_30n (dc_we h0 _) (dc_we h1 _) (by rw [dc_ne k hk]; exact hp b1 b2 b9 hz e1 e2 e3))
theorem dc_dueP0 {post : Int32 → Prop} {T k n E : Nat} {v : Int32} (hT : T < 900) (hk : k < 12) (hn : n < 10) (hP : dc_P T k n v ds a8 a9 a10) (hE : E < T + n) (hp : post 0) : wpX_due post (pr, nI T, dn, ds, a1, a2, a3, a4, a5, a6, a7, a8, a9, a10) (nI E) := by
  unfold wpX_due
  try dsimp only
  refine dc_nextP hT hk hn hP (br_f (nI_pos (by omega)) ?_)
  rw [nI_add]
  exact br_t (nI_lt hE (by omega)) hp
theorem dc_dueP1 {post : Int32 → Prop} {T k n E : Nat} {v : Int32} (hT : T < 900) (hk : k < 12) (hn : n < 10) (hP : dc_P T k n v ds a8 a9 a10) (hE : E = T + n) (hp : post 1) : wpX_due post (pr, nI T, dn, ds, a1, a2, a3, a4, a5, a6, a7, a8, a9, a10) (nI E) := by
  unfold wpX_due
  try dsimp only
  refine dc_nextP hT hk hn hP (br_f (nI_pos (by omega)) ?_)
  rw [nI_add]
  exact br_f (nI_nlt (by omega) (by omega)) hp
theorem dc_dueQ {post : Int32 → Prop} {T : Nat} {E : Int32} (hT : T < 900) (hd : ds = 0) (hz : dc_Z a9) (hp : post 0) : wpX_due post (pr, nI T, dn, ds, a1, a2, a3, a4, a5, a6, a7, a8, a9, a10) E := by
  unfold wpX_due
  try dsimp only
  exact dc_nextQ hT hd hz (br_t (by decide) hp)
theorem dc_run39 {post : Int32 → St2 → Prop} {T w : Nat} (hw : w < 10) (h : wX_run_39 post 200 (nI w) pr (nI T) dn ds a1 a2 a3 a4 a5 a6 a7 a8 a9 a10) : wpX_run post (pr, nI T, dn, ds, a1, a2, a3, a4, a5, a6, a7, a8, a9, a10) (nI w) 200 :=
  br_t (by decide) (show wX_run_14 post (nI w) 200 pr (nI T) dn ds a1 a2 a3 a4 a5 a6 a7 a8 a9 a10 from br_t (nI_pos' (by omega)) (show wX_run_26 post 200 (nI w) pr (nI T) dn ds a1 a2 a3 a4 a5 a6 a7 a8 a9 a10 from br_t (nI_le (b := 1000) (by omega) (by decide)) h))
/-- a run that ends ahead of the change -/
theorem dc_run0 {post : Int32 → St2 → Prop} {T k n w : Nat} {v : Int32} (hT : T < 100) (hk : k < 12) (hn : n < 10) (hw : w < n) (hP : dc_P T k n v ds a8 a9 a10) (hp : post 0 (pr, nI T, dn, ds, a1, a2, a3, a4, a5, a6, a7, a8, a9, a10)) : wpX_run post (pr, nI T, dn, ds, a1, a2, a3, a4, a5, a6, a7, a8, a9, a10) (nI w) 200 :=
  dc_run39 (by omega) (nm_r (nI_add T w) (dc_dueP0 (by omega) hk hn hP (by omega) ⟨1, br_f (by decide) (br_t rfl hp)⟩))
/-- a run up to the change's time -/
theorem dc_run1 {post : Int32 → St2 → Prop} {T k n : Nat} {v : Int32} (hT : T < 100) (hk : k < 12) (hn : n < 10) (hP : dc_P T k n v ds a8 a9 a10) (h0 : a7 0 &&& dc_b k = 0) (h1 : a7 1 &&& dc_b k = 0)
    (hp : ∀ b1 b2 b9 : Nat → Int32, dc_Z b9 → b1 = upd a1 k v → (∀ j, j ≠ k → b2 j = a2 j) → b2 k = a2 k + dc_o (decide (¬ a1 k = v)) → post 1 (2, nI (T + n), dn + 1, 0, b1, b2, a3, a4, a5, a6, a7, a8, b9, a10)) : wpX_run post (2, nI T, dn, ds, a1, a2, a3, a4, a5, a6, a7, a8, a9, a10) (nI n) 200 :=
  dc_run39 hn (nm_r (nI_add T n) (dc_dueP1 (by omega) hk hn hP rfl ⟨2, br_f (by decide) (br_f (by decide) (dc_stepN (by omega) hk hn hP h0 h1 (fun b1 b2 b9 hz e1 e2 e3 => nm_r (e' := 1) (by decide) (dc_dueQ (by omega) rfl hz (br_f (by decide) (br_t rfl (hp b1 b2 b9 hz e1 e2 e3)))))))⟩))
theorem dc_fill {s : Nat → Int32} {i : Nat} (hi : i < 1000) (h : ∀ j, j < i → s j = 0) : ∀ j, j < i + 1 → upd s (nI i).toNatClampNeg 0 j = 0 := by
  intro j hj
  rw [dc_cl (by omega)]
  by_cases e : j = i
  · rw [e, pk_us]
  · rw [pk_un e]
    exact h j (by omega)
theorem dc_reset {post : St2 → Prop} (hp : ∀ b1 b2 b9 : Nat → Int32, dc_Z b9 → (∀ j, j < 12 → b1 j = 0) → (∀ j, j < 12 → b2 j = 0) → post (pr, 0, 0, 0, b1, b2, a3, a4, a5, a6, a7, a8, b9, a10)) : wpX_reset post (pr, ti, dn, ds, a1, a2, a3, a4, a5, a6, a7, a8, a9, a10) := by
  refine pk_loop (fun n i s => wX_reset_17 post pr 0 0 0 n (nI i) a1 a2 a3 a4 a5 a6 a7 a8 s a10) (fun i s => ∀ j, j < i → s j = 0) 10 0 a9 (by omega) (fun j hj => absurd hj (by omega)) ?_ ?_
  · intro n s h
    refine pk_le 10 10 (fun _ => ?_) (fun z => absurd z (by omega))
    refine pk_loop (σ := (Nat → Int32) × (Nat → Int32)) (fun n i t => wX_reset_38 post pr 0 0 0 n (nI i) t.1 t.2 a3 a4 a5 a6 a7 a8 s a10) (fun i t => (∀ j, j < i → t.1 j = 0) ∧ (∀ j, j < i → t.2 j = 0)) 12 0 (a1, a2) (by omega) ⟨fun j hj => absurd hj (by omega), fun j hj => absurd hj (by omega)⟩ ?_ ?_
    · intro n t g
      exact pk_le 12 12 (fun _ => hp t.1 t.2 s h g.1 g.2) (fun z => absurd z (by omega))
    · intro n i t hi g hw
      exact pk_le 12 i (fun z => absurd z (by omega)) (fun _ => ⟨pk_in i 12 hi, nm_e ⟨pk_in i 12 hi, nm_e (nm_r (nI_1 i) (hw (_, _) ⟨dc_fill (by omega) g.1, dc_fill (by omega) g.2⟩))⟩⟩)
  · intro n i s hi h hw
    exact pk_le 10 i (fun z => absurd z (by omega)) (fun _ => ⟨pk_in i 10 hi, nm_e (nm_r (nI_1 i) (hw _ (dc_fill (by omega) h)))⟩)
end
end
section
section
variable {pr ti dn ds : Int32} {a1 a2 a3 a4 a5 a6 a7 a8 a9 a10 : Nat → Int32}
theorem dc_pendQ {post : Int32 → Prop} (hd : ds = 0) (hz : dc_Z a9) (hp : post 0) : wpX_pending post (pr, ti, dn, ds, a1, a2, a3, a4, a5, a6, a7, a8, a9, a10) :=
  dc_pend (ek_v (P := post) (by rw [dc_pnZ hz 10 (by omega), hd, dc_n0]) hp)
theorem dc_pendP {post : Int32 → Prop} {T k n : Nat} {v : Int32} (hk : k < 12) (hP : dc_P T k n v ds a8 a9 a10) (hp : post 1) : wpX_pending post (pr, ti, dn, ds, a1, a2, a3, a4, a5, a6, a7, a8, a9, a10) :=
  dc_pend (ek_v (P := post) (dc_pnP hk hP) hp)
/-- the two processes -/
def dc_RR (m k d e : Nat) (c : Int32) (a3 a4 a5 a6 a7 : Nat → Int32) : Prop :=
  dc_R 0 k m (4 + m) (8 + m) (dc_st m) d c (dc_set m) a3 a4 a5 a6 a7 ∧ dc_R 1 3 (dc_st m) (dc_st m) (dc_st m) (dc_sz m) e 5 (dc_b (dc_st m)) a3 a4 a5 a6 a7
/-- the end: reset, poke(1) -/
theorem dc_590 {post : Int32 → St0 → Prop} {mc ms kc ks m k d e : Nat} {z0 z1 c : Int32} (hm : m < 4) (hR : dc_RR m k d e c a3 a4 a5 a6 a7) (h1 : z1 = z0) (hn : dn = 3) (hd : ds = 0) (hz : dc_Z a9) (hp : post 1 ()) :
    wL_lawOf_590 post mc ms (nI (dc_st m)) (nI (dc_sz m)) z0 z1 kc ks 2 ti dn ds a1 a2 a3 a4 a5 a6 a7 a8 a9 a10 := by
  obtain ⟨s1, s2, s3, s4, s5⟩ := dc_sto m hm
  have he : e < 10 := hR.2.2.2.2.2.2.2.2.1
  refine br_t h1 (br_t hn (dc_pendQ hd hz (br_t rfl (dc_reset (fun b1 b2 b9 hz' e1 e2 => br_t rfl (dc_value (by omega) (br_t (e1 _ (by omega)) (dc_events (by omega) (br_t (e2 _ (by omega)) (br_t rfl
    (dc_poke (p := 1) (T := 0) (by omega) hR.2 (by omega) rfl hz' (fun d' c8 c9 c10 hP => br_t rfl (dc_comeP (T := 0) (by omega) (by omega) he hP (br_t ?_ hp))))))))))))))
  show b1 (dc_st m) + 5 = 5
  rw [e1 _ (by omega)]
  rfl
/-- run to the second change -/
theorem dc_528 {post : Int32 → St0 → Prop} {mc ms kc ks m k d e : Nat} {c r : Int32} (hm : m < 4) (hR : dc_RR m k d e c a3 a4 a5 a6 a7) (hP : dc_P d (dc_sz m) e (r + 5) ds a8 a9 a10) (hv : a1 (dc_sz m) = 0) (hc : a2 (dc_sz m) = 0) (hn : dn = 2) (hp : post 1 ()) :
    wL_lawOf_528 post mc ms (nI d) (nI e) (nI (dc_st m)) (nI (dc_sz m)) r kc ks 2 (nI d) dn ds a1 a2 a3 a4 a5 a6 a7 a8 a9 a10 := by
  obtain ⟨s1, s2, s3, s4, s5⟩ := dc_sto m hm
  have he : e < 10 := hR.2.2.2.2.2.2.2.2.1
  have hd : d < 10 := hR.1.2.2.2.2.2.2.2.1
  have w0 : a7 0 = dc_set m := hR.1.2.2.2.2.1
  have w1 : a7 1 = dc_b (dc_st m) := hR.2.2.2.2.2.1
  unfold wL_lawOf_528
  refine dc_run1 (by omega) (by omega) he hP (by rw [w0]; exact dc_w0z m hm) (by rw [w1]; exact dc_w1z m hm) (fun b1 b2 b9 hz e1 e2 e3 => br_t rfl (br_t (nI_add d e).symm (dc_value (by omega) (br_t (by rw [e1, pk_us]) (dc_events (by omega) (br_c (fun g => ?_) (fun g => ?_)))))))
  · exact dc_590 hm hR (by rw [e3, hc, hv, g]; rfl) (by rw [hn]; rfl) rfl hz hp
  · exact dc_590 hm hR (by rw [e3, hc, hv, decide_eq_true (p := ¬ (0 : Int32) = r + 5) (fun y => g y.symm)]; rfl) (by rw [hn]; rfl) rfl hz hp
/-- behind the second step -/
theorem dc_414 {post : Int32 → St0 → Prop} {mc ms kc ks m k d e : Nat} {c r z0 z1 : Int32} (hm : m < 4) (hR : dc_RR m k d e c a3 a4 a5 a6 a7) (h1 : z1 = z0) (ht : a1 (dc_st m) = r) (hq : r = 0 → ds = 0 ∧ dc_Z a9) (hP : ¬ r = 0 → dc_P d (dc_sz m) e (r + 5) ds a8 a9 a10) (hv : a1 (dc_sz m) = 0) (hc : a2 (dc_sz m) = 0) (hn : dn = 2) (hp : post 1 ()) :
    wL_lawOf_414 post mc ms (nI d) (nI e) (nI (dc_st m)) (nI (dc_sz m)) r z0 z1 kc ks 2 (nI d) dn ds a1 a2 a3 a4 a5 a6 a7 a8 a9 a10 := by
  obtain ⟨s1, s2, s3, s4, s5⟩ := dc_sto m hm
  have he : e < 10 := hR.2.2.2.2.2.2.2.2.1
  have hd : d < 10 := hR.1.2.2.2.2.2.2.2.1
  refine br_t h1 (br_t rfl (dc_value (by omega) (br_t ht (br_c (fun g => ?_) (fun g => ?_)))))
  · obtain ⟨q1, q2⟩ := hq g
    exact dc_pendQ q1 q2 (br_t rfl (dc_stepQ (by omega) q1 q2 (br_t rfl (br_t hn hp))))
  · have P := hP g
    refine dc_nextT (by omega) (by omega) he P (br_t (nI_add d e).symm (dc_comeP (by omega) (by omega) he P (br_t rfl (pk_le e 0 (fun _ => ?_) (fun y => ?_)))))
    · exact dc_528 hm hR P hv hc hn hp
    · rw [show nI e - 1 = nI (e - 1) from pk_sub (b := 1) y]
      exact dc_run0 (by omega) (by omega) he (by omega) P (br_t rfl (dc_528 hm hR P hv hc hn hp))
/-- 1 if an int isn't 0 -/
def dc_f (u : Int32) : Int32 := dc_o (decide (¬ (0 : Int32) = u))
theorem dc_f0 {u : Int32} (h : u = 0) : 0 = dc_f u := by
  subst h
  rfl
theorem dc_f1 {u : Int32} (h : ¬ u = 0) : 1 = dc_f u := by
  unfold dc_f
  rw [decide_eq_true (p := ¬ (0 : Int32) = u) (fun y => h y.symm)]
  rfl
theorem dc_oz : ∀ p q r : Bool, (dc_o p + dc_o q) + dc_o r = 0 → p = false ∧ q = false ∧ r = false := by decide +kernel
theorem dc_nz {u : Int32} (h : decide (¬ (0 : Int32) = u) = false) : u = 0 := Decidable.byContradiction (fun y => of_decide_eq_false h (fun z => y z.symm))
/-- the three signals are driven -/
def dc_A (m : Nat) (u v w ds : Int32) (a1 a2 a8 a9 : Nat → Int32) : Prop :=
  ds = dc_set m ∧ (∀ j, a1 j = 0) ∧ (∀ j, a2 j = 0) ∧ a8 m = u ∧ a8 (4 + m) = v ∧ a8 (8 + m) = w ∧ dc_Z a9
theorem dc_249 {post : Int32 → St0 → Prop} {mc ms kc ks m k d e : Nat} {u v w c z0 z1 : Int32} (hm : m < 4) (hR : dc_RR m k d e c a3 a4 a5 a6 a7) (hA : dc_A m u v w ds a1 a2 a8 a9) (hs : z1 + z0 = (dc_f u + dc_f v) + dc_f w) (hp : post 1 ()) :
    wL_lawOf_249 post mc ms u v w c (nI k) (nI d) (nI e) (nI m) (nI (4 + m)) (nI (8 + m)) (nI (dc_st m)) (nI (dc_sz m)) z0 z1 kc ks 2 0 0 ds a1 a2 a3 a4 a5 a6 a7 a8 a9 a10 := by
  obtain ⟨s1, s2, s3, s4, s5⟩ := dc_sto m hm
  obtain ⟨hd, A1, A2, A3, A4, A5, hz⟩ := hA
  have hk : k < 6 := hR.1.2.2.2.2.2.2.1
  have he : e < 10 := hR.2.2.2.2.2.2.2.2.1
  have hd10 : d < 10 := hR.1.2.2.2.2.2.2.2.1
  have w0 : a7 0 = dc_set m := hR.1.2.2.2.2.1
  have w1 : a7 1 = dc_b (dc_st m) := hR.2.2.2.2.2.1
  have B0 : dc_v (dc_set m) a8 a1 12 m = u := by rw [dc_v3 hm (by omega) (by omega), A3]
  have B1 : dc_v (dc_set m) a8 a1 12 (4 + m) = v := by rw [dc_v3 hm (by omega) (by omega), A4]
  have B2 : dc_v (dc_set m) a8 a1 12 (8 + m) = w := by rw [dc_v3 hm (by omega) (by omega), A5]
  have Bt : dc_v (dc_set m) a8 a1 12 (dc_st m) = 0 := by rw [dc_v3n hm (by omega), A1]
  have Bz : dc_v (dc_set m) a8 a1 12 (dc_sz m) = 0 := by rw [dc_v3n hm (by omega), A1]
  have Cz : dc_c (dc_set m) a8 a1 a2 12 (dc_sz m) = 0 := by rw [dc_c3n hm (by omega), A2]
  obtain ⟨N1, N2, N3⟩ := dc_chn m hm (decide (¬ (0 : Int32) = u)) (decide (¬ (0 : Int32) = v)) (decide (¬ (0 : Int32) = w))
  unfold wL_lawOf_249
  refine nm_r hs (dc_step3 hm hd ?_)
  rw [A1 m, A1 (4 + m), A1 (8 + m), A3, A4, A5]
  generalize dc_v (dc_set m) a8 a1 12 = b1 at *
  generalize dc_c (dc_set m) a8 a1 a2 12 = b2 at *
  by_cases hN : (dc_f u + dc_f v) + dc_f w = 0
  · obtain ⟨o1, o2, o3⟩ := dc_oz _ _ _ hN
    have u0 := dc_nz o1
    have v0 := dc_nz o2
    have x0 := dc_nz o3
    refine dc_30n (by rw [w0]; exact N3.mpr hN) (by rw [w1]; exact N2) ?_
    refine br_t N1 (dc_value (by omega) (br_t B0 (dc_value (by omega) (br_t B1 (dc_value (by omega) (br_t B2 ?_))))))
    refine br_t rfl (br_t hN (dc_pendQ rfl hz (br_t rfl ?_)))
    refine dc_poke (p := 0) (T := 0) (by omega) hR.1 (by omega) rfl hz (fun d' c8 c9 c10 hP => ?_)
    refine br_t rfl (dc_comeP (T := 0) (by omega) (by omega) hd10 hP (dc_dueL hk (br_t ?_ hp)))
    rw [B0, B1, B2, u0, v0, x0]
  · refine dc_30a (T := 0) (by omega) hR.1 rfl hz (by rw [w0]; exact fun y => hN (N3.mp y)) (by rw [w1]; exact N2) (fun d' c8 c9 c10 hP => ?_)
    rw [B0, B1, B2] at hP
    refine br_t N1 (dc_value (by omega) (br_t B0 (dc_value (by omega) (br_t B1 (dc_value (by omega) (br_t B2 ?_))))))
    refine br_t rfl (br_f hN (dc_dueL hk (dc_pendP (by omega) hP (br_t rfl ?_))))
    refine dc_nextT (T := 0) (by omega) (by omega) hd10 hP (br_t (by rw [Nat.zero_add]) ?_)
    refine dc_comeP (T := 0) (by omega) (by omega) hd10 hP (br_t rfl ?_)
    refine dc_stepP (T := 0) (by omega) (by omega) hd10 hP (fun g1 g2 g9 hz' e1 e2 e3 => ?_)
    rw [Nat.zero_add, Bt]
    have Gt : g1 (dc_st m) = dc_due k u v w c := by rw [e1, pk_us]
    have Gz : g1 (dc_sz m) = 0 := by rw [e1, pk_un (by omega), Bz]
    have Gc : g2 (dc_sz m) = 0 := by rw [e2 _ (by omega), Cz]
    by_cases g : dc_due k u v w c = 0
    · have x0 : dc_e (decide (¬ (0 : Int32) = dc_due k u v w c)) (dc_st m) = 0 := by
        rw [g]
        rfl
      rw [x0]
      exact dc_30n Int32.and_zero Int32.and_zero (br_t g (dc_414 hm hR (by rw [dc_n0]) Gt (fun _ => ⟨rfl, hz'⟩) (fun y => absurd g y) Gz Gc rfl hp))
    · have x1 : dc_e (decide (¬ (0 : Int32) = dc_due k u v w c)) (dc_st m) = dc_b (dc_st m) := by
        rw [decide_eq_true (p := ¬ (0 : Int32) = dc_due k u v w c) (fun y => g y.symm)]
        rfl
      rw [x1]
      refine dc_30b (by omega) hR.2 rfl hz' (by rw [w0]; exact dc_w0t m hm) (by rw [w1]; exact dc_w1t m hm) (fun d'' h8 h9 h10 hP2 => br_f g ?_)
      refine dc_414 hm hR (dc_n1 _ (by omega)) Gt (fun y => absurd y g) (fun _ => ?_) Gz Gc rfl hp
      have hP3 : dc_P d (dc_sz m) e (g1 (dc_st m) + 5) d'' h8 h9 h10 := hP2
      rw [Gt] at hP3
      exact hP3
theorem dc_239 {post : Int32 → St0 → Prop} {mc ms kc ks m k d e : Nat} {u v w c z0 z1 : Int32} (hm : m < 4) (hR : dc_RR m k d e c a3 a4 a5 a6 a7) (hA : dc_A m u v w ds a1 a2 a8 a9) (h0 : z0 = dc_f v) (h1 : z1 = dc_f u) (hp : post 1 ()) :
    wL_lawOf_239 post mc ms u v w c (nI k) (nI d) (nI e) (nI m) (nI (4 + m)) (nI (8 + m)) (nI (dc_st m)) (nI (dc_sz m)) z0 z1 kc ks 2 0 0 ds a1 a2 a3 a4 a5 a6 a7 a8 a9 a10 :=
  br_c (fun g => dc_249 hm hR hA (by rw [h0, h1, ← dc_f0 g]) hp) (fun g => dc_249 hm hR hA (by rw [h0, h1, ← dc_f1 g]) hp)
theorem dc_230 {post : Int32 → St0 → Prop} {mc ms kc ks m k d e : Nat} {u v w c z0 : Int32} (hm : m < 4) (hR : dc_RR m k d e c a3 a4 a5 a6 a7) (hA : dc_A m u v w ds a1 a2 a8 a9) (h0 : z0 = dc_f u) (hp : post 1 ()) :
    wL_lawOf_230 post mc ms u v w c (nI k) (nI d) (nI e) (nI m) (nI (4 + m)) (nI (8 + m)) (nI (dc_st m)) (nI (dc_sz m)) z0 kc ks 2 0 0 ds a1 a2 a3 a4 a5 a6 a7 a8 a9 a10 :=
  br_c (fun g => dc_239 hm hR hA (dc_f0 g) h0 hp) (fun g => dc_239 hm hR hA (dc_f1 g) h0 hp)
end
end
section
theorem dc_cell {post : Int32 → Prop} {xs : Nat → Int32} {L p : Nat} (hL : L ≤ 5) (hp : p < 5) (h : ∀ x, post x) : wpL_cellAt post L xs () (nI p) :=
  pk_le L p (fun _ => h 0) (fun z => ⟨pk_in p L z, h _⟩)
theorem dc_lawOf {post : Int32 → St0 → Prop} (x u v w c : Int32) (hp : post 1 ()) : wpL_lawOf post 132 2112 () x u v w c := by
  obtain ⟨j1, l1, e1⟩ := pk_andE x (m := 255) 8 (by decide)
  obtain ⟨j2, l2, e2⟩ := pk_andE (x >>> ((8 : Int32) &&& 31)) (m := 255) 8 (by decide)
  obtain ⟨j3, l3, e3⟩ := pk_andE (x >>> ((16 : Int32) &&& 31)) (m := 127) 7 (by decide)
  obtain ⟨m, hm, e4⟩ := pk_andE (x >>> ((24 : Int32) &&& 31)) (m := 3) 2 (by decide)
  have f1 : (x &&& 255) - (x &&& 255) / 6 * 6 = nI (j1 % 6) := by
    rw [e1]
    exact pk_rem (d := 6) (by omega) (by decide) (by decide)
  have f2 : ((x >>> ((8 : Int32) &&& 31)) &&& 255) - ((x >>> ((8 : Int32) &&& 31)) &&& 255) / 10 * 10 = nI (j2 % 10) := by
    rw [e2]
    exact pk_rem (d := 10) (by omega) (by decide) (by decide)
  have f3 : ((x >>> ((16 : Int32) &&& 31)) &&& 127) - ((x >>> ((16 : Int32) &&& 31)) &&& 127) / 10 * 10 = nI (j3 % 10) := by
    rw [e3]
    exact pk_rem (d := 10) (by omega) (by decide) (by decide)
  have f4 : (nI m + 1) - (nI m + 1) / 4 * 4 = nI (dc_st m) := by
    rw [nI_1]
    exact pk_rem (d := 4) (by omega) (by decide) (by decide)
  have f5 : 4 + ((nI m + 1) - (nI m + 1) / 4 * 4) = nI (dc_sz m) := by
    rw [f4]
    exact nI_add 4 _
  have hm4 : m < 4 := hm
  have k6 : j1 % 6 < 6 := Nat.mod_lt _ (by decide)
  have d10 : j2 % 10 < 10 := Nat.mod_lt _ (by decide)
  have e10 : j3 % 10 < 10 := Nat.mod_lt _ (by decide)
  generalize j1 % 6 = k at *
  generalize j2 % 10 = d at *
  generalize j3 % 10 = e at *
  obtain ⟨s1, s2, s3, s4, s5⟩ := dc_sto m hm4
  obtain ⟨t1, t2, t3, t4, t5⟩ := dc_set1 m hm4
  refine ⟨by decide, by decide, 10, 206, by decide, by decide, ?_⟩
  refine ⟨by decide, by decide, by decide, by decide, by decide, by decide, by decide, by decide, by decide, by decide, by decide, by decide, by decide, by decide, by decide, by decide, by decide, by decide, by decide, by decide, ?_⟩
  refine ⟨by decide, nm_r f1 ⟨by decide, nm_r f2 ⟨by decide, nm_r f3 (nm_r e4 (nm_r (nI_add 4 m) (nm_r (nI_add 8 m) ⟨by decide, nm_r f4 ⟨by decide, nm_r f5 ?_⟩⟩)))⟩⟩⟩
  refine dc_proc (p := 0) (by decide) k6 d10 (dc_how k k6 d d10).1 (dc_how k k6 d d10).2 (dc_pt0 m hm4) (by omega) (by omega) (by omega) (by omega) (br_t rfl ?_)
  refine dc_proc (p := 1) (k := 3) (by decide) (by decide) e10 (dc_how 3 (by decide) e e10).1 (dc_how 3 (by decide) e e10).2 (dc_pt1 m hm4) (by omega) (by omega) (by omega) (by omega) (br_t rfl ?_)
  refine dc_drive (T := 0) (by decide) (by omega) (fun _ _ => rfl) (fun b9 h9 => br_t t1 ?_)
  refine dc_drive (T := 0) (by decide) (by omega) h9 (fun c9 i9 => br_t t2 ?_)
  refine dc_drive (T := 0) (by decide) (by omega) i9 (fun d9 o9 => br_t t3 ?_)
  have hR : dc_RR m k d e c (upd (upd (fun _ => 0) 0 (nI k)) 1 (nI 3)) (upd (upd (fun _ => 0) 0 (nI d)) 1 (nI e)) (upd (upd (fun _ => 0) 0 (dc_p0 m)) 1 (dc_p1 m)) (upd (upd (fun _ => 0) 0 c) 1 5) (upd (upd (fun _ => 0) 0 (dc_set m &&& 4095)) 1 (dc_b (dc_st m) &&& 4095)) :=
    ⟨⟨rfl, rfl, dc_pt0 m hm4, rfl, dc_w0 m hm4, by omega, k6, d10, by omega, by omega, by omega, by omega⟩, ⟨rfl, rfl, dc_pt1 m hm4, rfl, dc_w1 m hm4, by omega, by omega, e10, by omega, by omega, by omega, by omega⟩⟩
  have hA : dc_A m u v w (((0 ||| dc_b m) ||| dc_b (4 + m)) ||| dc_b (8 + m)) (fun _ => 0) (fun _ => 0) (upd (upd (upd (fun _ => 0) m u) (4 + m) v) (8 + m) w) d9 :=
    ⟨t4, fun _ => rfl, fun _ => rfl, by rw [pk_un (by omega), pk_un (by omega), pk_us], by rw [pk_un (by omega), pk_us], pk_us, o9⟩
  exact br_c (fun g => dc_230 hm4 hR hA (dc_f0 g) hp) (fun g => dc_230 hm4 hR hA (dc_f1 g) hp)
theorem i_vc (xs : Nat → Int32) (L : Nat) (hL : L ≤ 5) : wpL_law (fun r => r = 1) L xs := by
  unfold wpL_law
  exact dc_cell (p := 0) hL (by decide) (fun x => dc_cell (p := 1) hL (by decide) (fun u => dc_cell (p := 2) hL (by decide) (fun v => dc_cell (p := 3) hL (by decide) (fun w => dc_cell (p := 4) hL (by decide) (fun c => ⟨132, 2112, by decide, by decide, dc_lawOf x u v w c rfl⟩)))))
end
