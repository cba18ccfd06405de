section
/-- the machine's state as rows: row 0 the six ints, rows 1..37 the arrays -/
abbrev sm_Z : Type := Nat → Nat → Int32
/-- one cell of one row written -/
def sm_up (z : sm_Z) (j i : Nat) (v : Int32) : sm_Z := fun j' => if j' = j then upd (z j) i v else z j'
abbrev sm_tp (z : sm_Z) : St2 := (z 0 0, z 0 1, z 0 2, z 0 3, z 0 4, z 0 5, z 1, z 2, z 3, z 4, z 5, z 6, z 7, z 8, z 9, z 10, z 11, z 12, z 13, z 14, z 15, z 16, z 17, z 18, z 19, z 20, z 21, z 22, z 23, z 24, z 25, z 26, z 27, z 28, z 29, z 30, z 31, z 32, z 33, z 34, z 35, z 36, z 37)
theorem sm_up_ap (z : sm_Z) (j i : Nat) (v : Int32) (j' i' : Nat) : sm_up z j i v j' i' = if j' = j ∧ i' = i then v else z j' i' := by
  unfold sm_up upd
  by_cases h : j' = j
  · subst h
    by_cases g : i' = i
    · simp [g]
    · simp [g]
  · simp [h]
theorem sm_up_y (z : sm_Z) (j i : Nat) (v : Int32) : sm_up z j i v j i = v := by
  rw [sm_up_ap, if_pos ⟨rfl, rfl⟩]
theorem sm_up_n (z : sm_Z) (j i : Nat) (v : Int32) {j' i' : Nat} (h : ¬ (j' = j ∧ i' = i)) : sm_up z j i v j' i' = z j' i' := by
  rw [sm_up_ap, if_neg h]
theorem sm_cl_lt {x : Int32} {N : Nat} (h : vp_in x N) : x.toNatClampNeg < N := Nat.lt_of_not_le (fun g => h (Or.inr g))
theorem sm_cl_nI {x : Int32} {N : Nat} (h : vp_in x N) (hN : N < 2 ^ 31) : nI x.toNatClampNeg = x := by
  obtain ⟨j, hj, rfl⟩ := vp_in_of h hN
  rw [nI_clamp (by omega)]
theorem sm_cl_inj {x y : Int32} {N : Nat} (hx : vp_in x N) (hy : vp_in y N) (hN : N < 2 ^ 31) (e : x.toNatClampNeg = y.toNatClampNeg) : x = y := by
  rw [← sm_cl_nI hx hN, ← sm_cl_nI hy hN, e]
theorem sm_nI_inj {a b : Nat} (ha : a < 2 ^ 31) (hb : b < 2 ^ 31) (e : nI a = nI b) : a = b := (nI_eq ha hb).mp e
/-- the ring cell of the k-th entry of thread t whose head is h -/
def sm_sl (h t k : Nat) : Nat := t * 12 + (if h + k < 12 then h + k else h + k - 12)
theorem sm_sl_rng {h t k : Nat} (hh : h < 12) (hk : k < 12) : t * 12 ≤ sm_sl h t k ∧ sm_sl h t k < t * 12 + 12 := by
  unfold sm_sl
  split <;> omega
theorem sm_sl_lt {h t k : Nat} (hh : h < 12) (hk : k < 12) (ht : t < 4) : sm_sl h t k < 48 := by
  have := sm_sl_rng (t := t) hh hk
  omega
theorem sm_sl_inj {h t k j : Nat} (hh : h < 12) (hk : k < 12) (hj : j < 12) (e : sm_sl h t k = sm_sl h t j) : k = j := by
  unfold sm_sl at e
  split at e <;> split at e <;> omega
theorem sm_sl_thr {h h' t t' k j : Nat} (hh : h < 12) (hh' : h' < 12) (hk : k < 12) (hj : j < 12) (e : sm_sl h t k = sm_sl h' t' j) : t = t' := by
  have := sm_sl_rng (t := t) hh hk
  have := sm_sl_rng (t := t') hh' hj
  omega
theorem sm_sl_div {h t k : Nat} (hh : h < 12) (hk : k < 12) : sm_sl h t k / 12 = t := by
  have := sm_sl_rng (t := t) hh hk
  omega
/-- the ring turns by one -/
def sm_hs (h : Nat) : Nat := if h = 11 then 0 else h + 1
theorem sm_sl_hs {h t k : Nat} (hh : h < 12) (hk : k < 11) : sm_sl (sm_hs h) t k = sm_sl h t (k + 1) := by
  unfold sm_sl sm_hs
  by_cases e : h = 11
  · subst e
    rw [if_pos rfl, if_pos (by omega), if_neg (by omega)]
    omega
  · rw [if_neg e]
    split <;> split <;> omega
theorem sm_w_slot {post : Int32 → Prop} {z : sm_Z} {t h k : Nat} (hz : z 15 t = nI h) (ht : t < 4) (hh : h < 12) (hk : k < 12) (hp : post (nI (sm_sl h t k))) : wpX_slot post (sm_tp z) (nI t) (nI k) := by
  refine ⟨vp_in_nI ht (by decide), ?_⟩
  rw [nI_clamp (show t < 2 ^ 31 by omega), hz, nI_add]
  refine nm_e (pk_lt (h + k) 12 (fun g => ?_) (fun g => nm_r (e' := nI (h + k - 12)) ?_ ?_))
  · have e : nI t * 12 + nI (h + k) = nI (sm_sl h t k) := by
      rw [show (12 : Int32) = nI 12 from rfl, pk_mul, nI_add]
      unfold sm_sl
      rw [if_pos g]
    rw [e]
    exact hp
  · have e : nI (h + k) = nI (h + k - 12) + nI 12 := by
      rw [nI_add]
      congr 1
      omega
    rw [e, show (-12 : Int32) = -(nI 12) from rfl]
    grind
  · have e : nI t * 12 + nI (h + k - 12) = nI (sm_sl h t k) := by
      rw [show (12 : Int32) = nI 12 from rfl, pk_mul, nI_add]
      unfold sm_sl
      rw [if_neg (by omega)]
    rw [e]
    exact hp
end
section
/-! the sequential machine: what one instruction does -/
def sm_u8 (f : Nat → Int32) (d : Nat) (v : Int32) : Nat → Int32 := fun r => if r % 8 = d then v else f r
def sm_u16 (f : Nat → Int32) (d : Nat) (v : Int32) : Nat → Int32 := fun r => if r % 16 = d then v else f r
def sm_ra (g : Int32) : Nat := ((g >>> ((3 : Int32) &&& 31)) &&& 7).toNatClampNeg
def sm_rb (g : Int32) : Nat := ((g >>> ((6 : Int32) &&& 31)) &&& 7).toNatClampNeg
def sm_rd (g : Int32) : Nat := (g &&& 7).toNatClampNeg
theorem sm_and7 (x : Int32) : (x &&& 7).toNatClampNeg < 8 ∧ x &&& 7 = nI (x &&& 7).toNatClampNeg := by
  obtain ⟨j, hj, e⟩ := pk_andE x (m := 7) 3 (by decide)
  rw [e, nI_clamp (by omega)]
  exact ⟨hj, rfl⟩
theorem sm_ra_lt (g : Int32) : sm_ra g < 8 := (sm_and7 _).1
theorem sm_rb_lt (g : Int32) : sm_rb g < 8 := (sm_and7 _).1
theorem sm_rd_lt (g : Int32) : sm_rd g < 8 := (sm_and7 _).1
/-- the instructions that write a register -/
abbrev sm_wr (o : Int32) : Prop := o ≤ 10 ∨ o = 14
theorem sm_wr11 {o : Int32} (h : o = 11) : ¬ sm_wr o := by
  subst h
  decide
def sm_cmp (o a b m : Int32) : Int32 :=
  if o < 1 then a + m else if 8 < o then a + m else if o = 1 then m else if o = 2 then a + b else if o = 3 then a - b
  else if o = 4 then a * b else if o = 5 then (if b = 0 then 0 else a / b) else if o = 6 then a &&& b else if o = 7 then a ^^^ b
  else if o = 8 then a <<< ((m &&& 31) &&& 31) else 0
abbrev sm_bad (e : Int32) : Prop := e < 0 ∨ ¬ e ≤ 15
/-- how it stops -/
def sm_xs (o a b m : Int32) : Int32 :=
  if 9 < o then (if 11 < o then 0 else if sm_bad (a + m) then 3 else 0) else if o = 5 ∧ b = 0 then 2 else 0
/-- its value -/
def sm_xv (o a b m pc : Int32) (M : Nat → Int32) : Int32 :=
  if 9 < o then (if 11 < o then pc + 1 else if sm_bad (a + m) then 0 else if o = 11 then b else M (a + m).toNatClampNeg) else sm_cmp o a b m
/-- where it goes -/
def sm_xn (o a b m pc : Int32) : Int32 :=
  if 11 < o then (if o = 14 then m else if o = 15 then a else if o = 12 then (if a = b then m else pc + 1) else if b ≤ a then pc + 1 else m) else pc + 1
def sm_R1 (o g m pc : Int32) (R M : Nat → Int32) : Nat → Int32 :=
  if sm_wr o then sm_u8 R (sm_rd g) (sm_xv o (R (sm_ra g)) (R (sm_rb g)) m pc M) else R
def sm_M1 (o g m : Int32) (R M : Nat → Int32) : Nat → Int32 :=
  if o = 11 ∧ sm_xs o (R (sm_ra g)) (R (sm_rb g)) m = 0 then sm_u16 M (R (sm_ra g) + m).toNatClampNeg (R (sm_rb g)) else M
/-- registers, memory, pc, status, retired, digest -/
abbrev sm_A : Type := (Nat → Int32) × (Nat → Int32) × Int32 × Int32 × Int32 × Int32
def sm_sq (c1 c2 c3 : Nat → Int32) (sz : Int32) (t : Nat) (A : sm_A) : sm_A :=
  match A with
  | (R, M, pc, st, rt, dg) =>
    if st ≠ 0 then (R, M, pc, st, rt, dg)
    else if pc < 0 ∨ ¬ pc < sz then (R, M, pc, 4, rt, dg)
    else if c1 (t * 24 + pc.toNatClampNeg) = 0 then (R, M, pc, 1, rt, dg)
    else if sm_xs (c1 (t * 24 + pc.toNatClampNeg)) (R (sm_ra (c2 (t * 24 + pc.toNatClampNeg)))) (R (sm_rb (c2 (t * 24 + pc.toNatClampNeg)))) (c3 (t * 24 + pc.toNatClampNeg)) ≠ 0 then
      (R, M, pc, sm_xs (c1 (t * 24 + pc.toNatClampNeg)) (R (sm_ra (c2 (t * 24 + pc.toNatClampNeg)))) (R (sm_rb (c2 (t * 24 + pc.toNatClampNeg)))) (c3 (t * 24 + pc.toNatClampNeg)), rt, dg)
    else
      (sm_R1 (c1 (t * 24 + pc.toNatClampNeg)) (c2 (t * 24 + pc.toNatClampNeg)) (c3 (t * 24 + pc.toNatClampNeg)) pc R M,
       sm_M1 (c1 (t * 24 + pc.toNatClampNeg)) (c2 (t * 24 + pc.toNatClampNeg)) (c3 (t * 24 + pc.toNatClampNeg)) R M,
       sm_xn (c1 (t * 24 + pc.toNatClampNeg)) (R (sm_ra (c2 (t * 24 + pc.toNatClampNeg)))) (R (sm_rb (c2 (t * 24 + pc.toNatClampNeg)))) (c3 (t * 24 + pc.toNatClampNeg)) pc,
       st, rt + 1,
       dg * 31 + 7 * pc +
        (if sm_wr (c1 (t * 24 + pc.toNatClampNeg)) then sm_xv (c1 (t * 24 + pc.toNatClampNeg)) (R (sm_ra (c2 (t * 24 + pc.toNatClampNeg)))) (R (sm_rb (c2 (t * 24 + pc.toNatClampNeg)))) (c3 (t * 24 + pc.toNatClampNeg)) pc M
         else if c1 (t * 24 + pc.toNatClampNeg) = 11 then 5 * (R (sm_ra (c2 (t * 24 + pc.toNatClampNeg))) + c3 (t * 24 + pc.toNatClampNeg)) + sm_xv (c1 (t * 24 + pc.toNatClampNeg)) (R (sm_ra (c2 (t * 24 + pc.toNatClampNeg)))) (R (sm_rb (c2 (t * 24 + pc.toNatClampNeg)))) (c3 (t * 24 + pc.toNatClampNeg)) pc M
         else sm_xn (c1 (t * 24 + pc.toNatClampNeg)) (R (sm_ra (c2 (t * 24 + pc.toNatClampNeg)))) (R (sm_rb (c2 (t * 24 + pc.toNatClampNeg)))) (c3 (t * 24 + pc.toNatClampNeg)) pc))
def sm_it (f : sm_A → sm_A) : Nat → sm_A → sm_A
  | 0, A => A
  | n + 1, A => sm_it f n (f A)
theorem sm_it_add (f : sm_A → sm_A) : ∀ (a b : Nat) (A : sm_A), sm_it f (a + b) A = sm_it f b (sm_it f a A)
  | 0, b, A => by
    rw [Nat.zero_add]
    rfl
  | a + 1, b, A => by
    rw [show a + 1 + b = (a + b) + 1 by omega]
    exact sm_it_add f a b (f A)
theorem sm_it_fix (f : sm_A → sm_A) {A : sm_A} (h : f A = A) : ∀ n : Nat, sm_it f n A = A
  | 0 => rfl
  | n + 1 => by
    show sm_it f n (f A) = A
    rw [h]
    exact sm_it_fix f h n
theorem sm_sq_st (c1 c2 c3 : Nat → Int32) (sz : Int32) (t : Nat) {R M : Nat → Int32} {pc st rt dg : Int32} (h : st ≠ 0) : sm_sq c1 c2 c3 sz t (R, M, pc, st, rt, dg) = (R, M, pc, st, rt, dg) := by
  unfold sm_sq
  try dsimp only
  rw [if_pos h]
theorem sm_sq_pc (c1 c2 c3 : Nat → Int32) (sz : Int32) (t : Nat) {R M : Nat → Int32} {pc rt dg : Int32} (h : pc < 0 ∨ ¬ pc < sz) : sm_sq c1 c2 c3 sz t (R, M, pc, 0, rt, dg) = (R, M, pc, 4, rt, dg) := by
  unfold sm_sq
  try dsimp only
  rw [if_neg (by decide), if_pos h]
theorem sm_sq_hl (c1 c2 c3 : Nat → Int32) (sz : Int32) (t : Nat) {R M : Nat → Int32} {pc rt dg : Int32} (h : ¬ (pc < 0 ∨ ¬ pc < sz)) (h1 : c1 (t * 24 + pc.toNatClampNeg) = 0) : sm_sq c1 c2 c3 sz t (R, M, pc, 0, rt, dg) = (R, M, pc, 1, rt, dg) := by
  unfold sm_sq
  try dsimp only
  rw [if_neg (by decide), if_neg h, if_pos h1]
theorem sm_sq_tr (c1 c2 c3 : Nat → Int32) (sz : Int32) (t : Nat) {R M : Nat → Int32} {pc rt dg o g m : Int32} (h : ¬ (pc < 0 ∨ ¬ pc < sz)) (h1 : c1 (t * 24 + pc.toNatClampNeg) = o) (h2 : c2 (t * 24 + pc.toNatClampNeg) = g) (h3 : c3 (t * 24 + pc.toNatClampNeg) = m) (ho : o ≠ 0)
    (hx : sm_xs o (R (sm_ra g)) (R (sm_rb g)) m ≠ 0) : sm_sq c1 c2 c3 sz t (R, M, pc, 0, rt, dg) = (R, M, pc, sm_xs o (R (sm_ra g)) (R (sm_rb g)) m, rt, dg) := by
  unfold sm_sq
  try dsimp only
  rw [if_neg (by decide), if_neg h, h1, if_neg ho, h2, h3, if_pos hx]
theorem sm_sq_go (c1 c2 c3 : Nat → Int32) (sz : Int32) (t : Nat) {R M : Nat → Int32} {pc rt dg o g m : Int32} (h : ¬ (pc < 0 ∨ ¬ pc < sz)) (h1 : c1 (t * 24 + pc.toNatClampNeg) = o) (h2 : c2 (t * 24 + pc.toNatClampNeg) = g) (h3 : c3 (t * 24 + pc.toNatClampNeg) = m) (ho : o ≠ 0)
    (hx : sm_xs o (R (sm_ra g)) (R (sm_rb g)) m = 0) : sm_sq c1 c2 c3 sz t (R, M, pc, 0, rt, dg) =
      (sm_R1 o g m pc R M, sm_M1 o g m R M, sm_xn o (R (sm_ra g)) (R (sm_rb g)) m pc, 0, rt + 1, dg * 31 + 7 * pc +
        (if sm_wr o then sm_xv o (R (sm_ra g)) (R (sm_rb g)) m pc M else if o = 11 then 5 * (R (sm_ra g) + m) + sm_xv o (R (sm_ra g)) (R (sm_rb g)) m pc M else sm_xn o (R (sm_ra g)) (R (sm_rb g)) m pc)) := by
  unfold sm_sq
  try dsimp only
  rw [if_neg (by decide), if_neg h, h1, if_neg ho, h2, h3, if_neg (fun k => k hx)]
theorem sm_xs_c (o a b m : Int32) : sm_xs o a b m ≠ 1 ∧ sm_xs o a b m ≠ 4 := by
  unfold sm_xs
  constructor <;> (split <;> (try split) <;> (try split) <;> decide)
end
section
/-! the invariant's pieces -/
def sm_isb (z : sm_Z) (s : Nat) : Prop := z 20 s = 1 ∨ z 20 s = 4
/-- an entry that stops the thread -/
def sm_blk (z : sm_Z) (t s : Nat) : Prop :=
  z 18 s = 2 ∧ z 21 s = -1 ∧ ((z 20 s = 4 ∧ (z 17 s < 0 ∨ ¬ z 17 s < z 4 t)) ∨ (z 20 s = 1 ∧ ¬ (z 17 s < 0 ∨ ¬ z 17 s < z 4 t) ∧ z 1 (t * 24 + (z 17 s).toNatClampNeg) = 0))
/-- what an executed entry holds -/
def sm_res (z : sm_Z) (s : Nat) (o g m pc : Int32) (R M : Nat → Int32) : Prop :=
  z 20 s = sm_xs o (R (sm_ra g)) (R (sm_rb g)) m ∧ z 28 s = sm_xn o (R (sm_ra g)) (R (sm_rb g)) m pc ∧
  ((sm_wr o ∨ o = 11) → z 26 s = sm_xv o (R (sm_ra g)) (R (sm_rb g)) m pc M) ∧ (o = 11 → z 27 s = R (sm_ra g) + m)
def sm_sta (z : sm_Z) (s : Nat) (o g m pc : Int32) (R M : Nat → Int32) : Prop :=
  (z 18 s = 0 ∧ z 20 s = 0 ∧ (sm_wr o → z 11 (z 22 s).toNatClampNeg = 0)) ∨
  (z 18 s = 1 ∧ sm_res z s o g m pc R M ∧ (sm_wr o → z 11 (z 22 s).toNatClampNeg = 0) ∧ ∃ τ, 1 ≤ τ ∧ τ ≤ 4 ∧ z 19 s = nI τ) ∨
  (z 18 s = 2 ∧ sm_res z s o g m pc R M ∧ (sm_wr o → z 11 (z 22 s).toNatClampNeg = 1 ∧ z 10 (z 22 s).toNatClampNeg = z 26 s))
def sm_nrm (z : sm_Z) (t s : Nat) (R M P R' M' P' : Nat → Int32) : Prop :=
  ∃ (p : Nat) (o g m : Int32), z 17 s = nI p ∧ p < 24 ∧ nI p < z 4 t ∧ z 1 (t * 24 + p) = o ∧ z 2 (t * 24 + p) = g ∧ z 3 (t * 24 + p) = m ∧ o ≠ 0 ∧
    z 24 s = P (sm_ra g) ∧ z 25 s = P (sm_rb g) ∧
    (sm_wr o → z 21 s = nI (sm_rd g) ∧ z 23 s = P (sm_rd g) ∧ P' = sm_u8 P (sm_rd g) (z 22 s)) ∧ (¬ sm_wr o → z 21 s = -1 ∧ P' = P) ∧
    R' = sm_R1 o g m (nI p) R M ∧ M' = sm_M1 o g m R M ∧ sm_sta z s o g m (nI p) R M
def sm_ent (z : sm_Z) (t s : Nat) (R M P R' M' P' : Nat → Int32) : Prop :=
  z 30 s = 1 ∧ ((sm_blk z t s ∧ R' = R ∧ M' = M ∧ P' = P) ∨ sm_nrm z t s R M P R' M' P')
def sm_thr (z : sm_Z) (t h n : Nat) (R M P : Nat → Nat → Int32) : Prop :=
  z 15 t = nI h ∧ h < 12 ∧ z 16 t = nI n ∧ n ≤ 12 ∧
  R 0 = (fun r => z 10 (z 13 (t * 8 + r % 8)).toNatClampNeg) ∧ M 0 = (fun a => z 5 (t * 16 + a % 16)) ∧
  P 0 = (fun r => z 13 (t * 8 + r % 8)) ∧ P n = (fun r => z 14 (t * 8 + r % 8)) ∧
  ∀ k, k < n → sm_ent z t (sm_sl h t k) (R k) (M k) (P k) (R (k + 1)) (M (k + 1)) (P (k + 1))
def sm_rgs (T ft : Nat) (own : Nat → Nat) (r11 r12 r13 r21 r22 r30 : Nat → Int32) : Prop :=
  (∀ i, i < ft → vp_in (r12 i) 56 ∧ own (r12 i).toNatClampNeg = i) ∧
  (∀ t r, t < T → r < 8 → vp_in (r13 (t * 8 + r)) 56 ∧ own (r13 (t * 8 + r)).toNatClampNeg = 100 + (t * 8 + r) ∧ r11 (r13 (t * 8 + r)).toNatClampNeg = 1) ∧
  (∀ s, s < 48 → r30 s ≠ 0 → ¬ r21 s < 0 → vp_in (r22 s) 56 ∧ own (r22 s).toNatClampNeg = 200 + s)
def sm_wt (r21 r30 : Nat → Int32) (s : Nat) : Nat := if r30 s = 0 ∨ r21 s < 0 then 0 else 1
def sm_cnt (r21 r30 : Nat → Int32) : Nat → Nat
  | 0 => 0
  | s + 1 => sm_cnt r21 r30 s + sm_wt r21 r30 s
def sm_lv (T : Nat) (H N : Nat → Nat) (r30 : Nat → Int32) : Prop :=
  ∀ s, s < 48 → r30 s ≠ 0 → ∃ t k, t < T ∧ k < N t ∧ s = sm_sl (H t) t k
def sm_qw (T q : Nat) (H N : Nat → Nat) (r18 r31 : Nat → Int32) : Prop :=
  q ≤ 16 ∧ (∀ i, i < q → vp_in (r31 i) 48) ∧ (∀ i j, i < j → j < q → r31 i ≠ r31 j) ∧
  (∀ t k, t < T → k < N t → r18 (sm_sl (H t) t k) = 0 → ∃ i, i < q ∧ r31 i = nI (sm_sl (H t) t k))
def sm_cor (T ex : Nat) (z : sm_Z) (H N : Nat → Nat) (R M P : Nat → Nat → Nat → Int32) (own : Nat → Nat) (ft q : Nat) : Prop :=
  T ≤ 4 ∧ ex ≤ 24 ∧ (∀ t, t < T → sm_thr z t (H t) (N t) (R t) (M t) (P t)) ∧ sm_rgs T ft own (z 11) (z 12) (z 13) (z 21) (z 22) (z 30) ∧
  z 0 3 = nI ft ∧ ft + sm_cnt (z 21) (z 30) 48 = ex ∧ sm_lv T H N (z 30) ∧ z 0 4 = nI q ∧ sm_qw T q H N (z 18) (z 31)
theorem sm_cnt_eq {a b c d : Nat → Int32} : ∀ n : Nat, (∀ i, i < n → sm_wt a b i = sm_wt c d i) → sm_cnt a b n = sm_cnt c d n
  | 0, _ => rfl
  | n + 1, h => by
    show sm_cnt a b n + sm_wt a b n = sm_cnt c d n + sm_wt c d n
    rw [sm_cnt_eq n (fun i hi => h i (by omega)), h n (by omega)]
theorem sm_cnt_one {a b c d : Nat → Int32} {s : Nat} : ∀ n : Nat, s < n → (∀ i, i < n → i ≠ s → sm_wt a b i = sm_wt c d i) → sm_cnt a b n + sm_wt c d s = sm_cnt c d n + sm_wt a b s
  | 0, h, _ => absurd h (by omega)
  | n + 1, h, g => by
    show sm_cnt a b n + sm_wt a b n + sm_wt c d s = sm_cnt c d n + sm_wt c d n + sm_wt a b s
    by_cases e : s = n
    · subst e
      rw [sm_cnt_eq s (fun i hi => g i (by omega) (by omega))]
      omega
    · have := sm_cnt_one n (by omega) (fun i hi hn => g i (by omega) hn)
      rw [g n (by omega) (by omega)]
      omega
/-- an entry's cells agree -/
def sm_ags (z z' : sm_Z) (t s : Nat) : Prop :=
  z' 1 = z 1 ∧ z' 2 = z 2 ∧ z' 3 = z 3 ∧ z' 4 t = z 4 t ∧ (∀ j, 17 ≤ j → j ≤ 30 → z' j s = z j s) ∧
  (¬ z 21 s < 0 → z' 10 (z 22 s).toNatClampNeg = z 10 (z 22 s).toNatClampNeg ∧ z' 11 (z 22 s).toNatClampNeg = z 11 (z 22 s).toNatClampNeg)
theorem sm_ent_fr {z z' : sm_Z} {t s : Nat} {R M P R' M' P' : Nat → Int32} (a : sm_ags z z' t s) (h : sm_ent z t s R M P R' M' P') : sm_ent z' t s R M P R' M' P' := by
  obtain ⟨a1, a2, a3, a4, a5, a6⟩ := a
  have e17 := a5 17 (by omega) (by omega)
  have e18 := a5 18 (by omega) (by omega)
  have e19 := a5 19 (by omega) (by omega)
  have e20 := a5 20 (by omega) (by omega)
  have e21 := a5 21 (by omega) (by omega)
  have e22 := a5 22 (by omega) (by omega)
  have e23 := a5 23 (by omega) (by omega)
  have e24 := a5 24 (by omega) (by omega)
  have e25 := a5 25 (by omega) (by omega)
  have e26 := a5 26 (by omega) (by omega)
  have e27 := a5 27 (by omega) (by omega)
  have e28 := a5 28 (by omega) (by omega)
  have e30 := a5 30 (by omega) (by omega)
  obtain ⟨h30, h⟩ := h
  refine ⟨by rw [e30]; exact h30, ?_⟩
  rcases h with ⟨hb, hr⟩ | ⟨p, o, g, m, h17, hp, hsz, ho, hg, hm, ho0, hA, hB, hw, hn, hR, hM, hs⟩
  · left
    refine ⟨?_, hr⟩
    unfold sm_blk at *
    rw [e18, e21, e20, e17, a4, a1]
    exact hb
  · right
    refine ⟨p, o, g, m, by rw [e17]; exact h17, hp, by rw [a4]; exact hsz, by rw [a1]; exact ho, by rw [a2]; exact hg, by rw [a3]; exact hm, ho0, by rw [e24]; exact hA, by rw [e25]; exact hB, fun w => ?_, fun w => ?_, hR, hM, ?_⟩
    · rw [e21, e23, e22]
      exact hw w
    · rw [e21]
      exact hn w
    · have n21 : sm_wr o → ¬ z 21 s < 0 := fun w => by
        rw [(hw w).1]
        exact nI_pos (by have := sm_rd_lt g; omega)
      have hres : sm_res z s o g m (nI p) R M → sm_res z' s o g m (nI p) R M := fun r => by
        unfold sm_res at *
        rw [e20, e28, e26, e27]
        exact r
      unfold sm_sta at *
      rw [e18, e20, e22, e19, e26]
      rcases hs with ⟨x1, x2, x3⟩ | ⟨x1, x2, x3, x4⟩ | ⟨x1, x2, x3⟩
      · exact Or.inl ⟨x1, x2, fun w => by rw [(a6 (n21 w)).2]; exact x3 w⟩
      · exact Or.inr (Or.inl ⟨x1, hres x2, fun w => by rw [(a6 (n21 w)).2]; exact x3 w, x4⟩)
      · exact Or.inr (Or.inr ⟨x1, hres x2, fun w => by rw [(a6 (n21 w)).2, (a6 (n21 w)).1]; exact x3 w⟩)
/-- a thread's cells agree -/
def sm_agt (z z' : sm_Z) (t h n : Nat) : Prop :=
  z' 15 t = z 15 t ∧ z' 16 t = z 16 t ∧
  (∀ r, r < 8 → z' 13 (t * 8 + r) = z 13 (t * 8 + r) ∧ z' 14 (t * 8 + r) = z 14 (t * 8 + r) ∧ z' 10 (z 13 (t * 8 + r)).toNatClampNeg = z 10 (z 13 (t * 8 + r)).toNatClampNeg) ∧
  (∀ a, a < 16 → z' 5 (t * 16 + a) = z 5 (t * 16 + a)) ∧ ∀ k, k < n → sm_ags z z' t (sm_sl h t k)
theorem sm_thr_fr {z z' : sm_Z} {t h n : Nat} {R M P : Nat → Nat → Int32} (a : sm_agt z z' t h n) (c : sm_thr z t h n R M P) : sm_thr z' t h n R M P := by
  obtain ⟨a1, a2, a3, a4, a5⟩ := a
  obtain ⟨c1, c2, c3, c4, c5, c6, c7, c8, c9⟩ := c
  have m8 : ∀ r : Nat, r % 8 < 8 := fun r => Nat.mod_lt r (by decide)
  refine ⟨by rw [a1]; exact c1, c2, by rw [a2]; exact c3, c4, ?_, ?_, ?_, ?_, fun k hk => sm_ent_fr (a5 k hk) (c9 k hk)⟩
  · rw [c5]
    funext r
    show _ = z' 10 (z' 13 (t * 8 + r % 8)).toNatClampNeg
    rw [(a3 _ (m8 r)).1, (a3 _ (m8 r)).2.2]
  · rw [c6]
    funext r
    show _ = z' 5 (t * 16 + r % 16)
    rw [a4 _ (Nat.mod_lt r (by decide))]
  · rw [c7]
    funext r
    show _ = z' 13 (t * 8 + r % 8)
    rw [(a3 _ (m8 r)).1]
  · rw [c8]
    funext r
    show _ = z' 14 (t * 8 + r % 8)
    rw [(a3 _ (m8 r)).2.1]
/-- a step's footprint: thread t, cell s, register p -/
def sm_fp (z z' : sm_Z) (t s p : Nat) : Prop :=
  ∀ j i, 1 ≤ j → j ≤ 30 → ¬ (6 ≤ j ∧ j ≤ 9) → j ≠ 12 → ¬ ((j = 15 ∨ j = 16) ∧ i = t) → ¬ ((j = 13 ∨ j = 14) ∧ i / 8 = t) → ¬ (j = 5 ∧ i / 16 = t) →
    ¬ (17 ≤ j ∧ i = s) → ¬ ((j = 10 ∨ j = 11) ∧ i = p) → z' j i = z j i
def sm_p0 (z : sm_Z) (T t s p : Nat) : Prop :=
  (∀ t' r, t' < T → t' ≠ t → r < 8 → (z 13 (t' * 8 + r)).toNatClampNeg ≠ p) ∧
  (∀ s', s' < 48 → s' ≠ s → z 30 s' ≠ 0 → ¬ z 21 s' < 0 → (z 22 s').toNatClampNeg ≠ p)
theorem sm_fp_row {z z' : sm_Z} {t s p : Nat} (f : sm_fp z z' t s p) {j : Nat} (h : 1 ≤ j ∧ j ≤ 4) : z' j = z j := by
  funext i
  exact f j i (by omega) (by omega) (by omega) (by omega) (by omega) (by omega) (by omega) (by omega) (by omega)
theorem sm_fp_ags {z z' : sm_Z} {t s p T : Nat} (f : sm_fp z z' t s p) (h0 : sm_p0 z T t s p) {t' s' : Nat} (hs : s' < 48) (hn : s' ≠ s) (hl : z 30 s' = 1) : sm_ags z z' t' s' := by
  refine ⟨sm_fp_row f (by omega), sm_fp_row f (by omega), sm_fp_row f (by omega), by rw [sm_fp_row f (by omega)], fun j h1 h2 => ?_, fun hd => ?_⟩
  · exact f j s' (by omega) (by omega) (by omega) (by omega) (by omega) (by omega) (by omega) (by omega) (by omega)
  · have e := h0.2 s' hs hn (by rw [hl]; decide) hd
    exact ⟨f 10 _ (by omega) (by omega) (by omega) (by omega) (by omega) (by omega) (by omega) (by omega) (by omega), f 11 _ (by omega) (by omega) (by omega) (by omega) (by omega) (by omega) (by omega) (by omega) (by omega)⟩
theorem sm_fp_oth {z z' : sm_Z} {t s p T : Nat} (hT : T ≤ 4) (f : sm_fp z z' t s p) (h0 : sm_p0 z T t s p) (hs : s / 12 = t) {t' h n : Nat} {R M P : Nat → Nat → Int32} (ht : t' < T) (hn : t' ≠ t) (c : sm_thr z t' h n R M P) : sm_thr z' t' h n R M P := by
  refine sm_thr_fr ⟨?_, ?_, fun r hr => ⟨?_, ?_, ?_⟩, fun a ha => ?_, fun k hk => ?_⟩ c
  · exact f 15 t' (by omega) (by omega) (by omega) (by omega) (by omega) (by omega) (by omega) (by omega) (by omega)
  · exact f 16 t' (by omega) (by omega) (by omega) (by omega) (by omega) (by omega) (by omega) (by omega) (by omega)
  · exact f 13 _ (by omega) (by omega) (by omega) (by omega) (by omega) (by omega) (by omega) (by omega) (by omega)
  · exact f 14 _ (by omega) (by omega) (by omega) (by omega) (by omega) (by omega) (by omega) (by omega) (by omega)
  · have e := h0.1 t' r ht hn hr
    exact f 10 _ (by omega) (by omega) (by omega) (by omega) (by omega) (by omega) (by omega) (by omega) (by omega)
  · exact f 5 _ (by omega) (by omega) (by omega) (by omega) (by omega) (by omega) (by omega) (by omega) (by omega)
  · obtain ⟨c1, c2, c3, c4, c5, c6, c7, c8, c9⟩ := c
    have g := sm_sl_rng (t := t') c2 (show k < 12 by omega)
    exact sm_fp_ags f h0 (by omega) (by omega) (c9 k hk).1
/-- what a thread's maps name: registers of its own, and a ready one holds the chain's value -/
theorem sm_map {T ex : Nat} {z : sm_Z} {H N : Nat → Nat} {R M P : Nat → Nat → Nat → Int32} {own : Nat → Nat} {ft q : Nat} (c : sm_cor T ex z H N R M P own ft q) {t : Nat} (ht : t < T) :
    ∀ k, k ≤ N t → ∀ r, r < 8 → vp_in (P t k r) 56 ∧ (z 11 (P t k r).toNatClampNeg ≠ 0 → z 10 (P t k r).toNatClampNeg = R t k r) := by
  obtain ⟨hT, hex, hth, ⟨g1, g2, g3⟩, hft, hcn, hlv, hq, hqw⟩ := c
  obtain ⟨c1, c2, c3, c4, c5, c6, c7, c8, c9⟩ := hth t ht
  intro k
  induction k with
  | zero =>
    intro _ r hr
    have e : r % 8 = r := Nat.mod_eq_of_lt hr
    rw [c7, c5]
    try dsimp only
    rw [e]
    exact ⟨(g2 t r ht hr).1, fun _ => rfl⟩
  | succ k ih =>
    intro hk r hr
    have e : r % 8 = r := Nat.mod_eq_of_lt hr
    have ih' := ih (by omega) r hr
    obtain ⟨h30, hb | ⟨p, o, g, m, h17, hp, hsz, ho, hg, hm, ho0, hA, hB, hw, hn, hR, hM, hs⟩⟩ := c9 k (by omega)
    · rw [hb.2.1, hb.2.2.2]
      exact ih'
    · by_cases w : sm_wr o
      · rw [(hw w).2.2, hR]
        unfold sm_R1 sm_u8
        rw [if_pos w]
        try dsimp only
        by_cases ed : r % 8 = sm_rd g
        · rw [if_pos ed, if_pos ed]
          have hs48 := sm_sl_lt (t := t) c2 (show k < 12 by omega) (by omega)
          refine ⟨(g3 _ hs48 (by rw [h30]; decide) (by rw [(hw w).1]; exact nI_pos (by have := sm_rd_lt g; omega))).1, fun hr => ?_⟩
          rcases hs with ⟨x1, x2, x3⟩ | ⟨x1, x2, x3, x4⟩ | ⟨x1, x2, x3⟩
          · exact absurd (x3 w) hr
          · exact absurd (x3 w) hr
          · rw [(x3 w).2]
            exact x2.2.2.1 (Or.inl w)
        · rw [if_neg ed, if_neg ed]
          exact ih'
      · rw [(hn w).2, hR]
        unfold sm_R1
        rw [if_neg w]
        exact ih'
theorem sm_map8 {T ex : Nat} {z : sm_Z} {H N : Nat → Nat} {R M P : Nat → Nat → Nat → Int32} {own : Nat → Nat} {ft q : Nat} (c : sm_cor T ex z H N R M P own ft q) {t : Nat} (ht : t < T) :
    ∀ k, k ≤ N t → ∀ r, P t k r = P t k (r % 8) := by
  obtain ⟨hT, hex, hth, hrg, hft, hcn, hlv, hq, hqw⟩ := c
  obtain ⟨c1, c2, c3, c4, c5, c6, c7, c8, c9⟩ := hth t ht
  intro k
  induction k with
  | zero =>
    intro _ r
    rw [c7]
    try dsimp only
    rw [Nat.mod_mod]
  | succ k ih =>
    intro hk r
    have ih' := ih (by omega) r
    obtain ⟨h30, hb | ⟨p, o, g, m, h17, hp, hsz, ho, hg, hm, ho0, hA, hB, hw, hn, hR, hM, hs⟩⟩ := c9 k (by omega)
    · rw [hb.2.2.2]
      exact ih'
    · by_cases w : sm_wr o
      · rw [(hw w).2.2]
        unfold sm_u8
        try dsimp only
        rw [Nat.mod_mod, ← ih']
      · rw [(hn w).2]
        exact ih'
/-- a step that leaves the rows of the threads alone -/
theorem sm_thr_id {z z' : sm_Z} (f : ∀ j i, 1 ≤ j → j ≤ 30 → ¬ (6 ≤ j ∧ j ≤ 9) → z' j i = z j i) {t h n : Nat} {R M P : Nat → Nat → Int32} (c : sm_thr z t h n R M P) : sm_thr z' t h n R M P := by
  have row : ∀ j, 1 ≤ j → j ≤ 30 → ¬ (6 ≤ j ∧ j ≤ 9) → z' j = z j := fun j h1 h2 h3 => funext fun i => f j i h1 h2 h3
  refine sm_thr_fr ⟨f _ _ (by omega) (by omega) (by omega), f _ _ (by omega) (by omega) (by omega), fun r hr => ⟨f _ _ (by omega) (by omega) (by omega), f _ _ (by omega) (by omega) (by omega), f _ _ (by omega) (by omega) (by omega)⟩, fun a ha => f _ _ (by omega) (by omega) (by omega), fun k hk => ?_⟩ c
  exact ⟨row 1 (by omega) (by omega) (by omega), row 2 (by omega) (by omega) (by omega), row 3 (by omega) (by omega) (by omega), f _ _ (by omega) (by omega) (by omega), fun j h1 h2 => f _ _ (by omega) (by omega) (by omega), fun _ => ⟨f _ _ (by omega) (by omega) (by omega), f _ _ (by omega) (by omega) (by omega)⟩⟩
end
section
def sm_fn (N : Nat → Nat) (t k : Nat) : Nat → Nat := fun t' => if t' = t then k else N t'
theorem sm_fn_y (N : Nat → Nat) (t k : Nat) : sm_fn N t k t = k := if_pos rfl
theorem sm_fn_n (N : Nat → Nat) {t k t' : Nat} (h : t' ≠ t) : sm_fn N t k t' = N t' := if_neg h
theorem sm_p0_own {z : sm_Z} {T ft : Nat} {own : Nat → Nat} (g : sm_rgs T ft own (z 11) (z 12) (z 13) (z 21) (z 22) (z 30)) {t s p : Nat}
    (h1 : ∀ t' r, t' < T → t' ≠ t → r < 8 → own p ≠ 100 + (t' * 8 + r)) (h2 : ∀ s', s' < 48 → s' ≠ s → own p ≠ 200 + s') : sm_p0 z T t s p := by
  obtain ⟨g1, g2, g3⟩ := g
  refine ⟨fun t' r ht hn hr e => ?_, fun s' hs hn hl hd e => ?_⟩
  · have := (g2 t' r ht hr).2.1
    rw [e] at this
    exact h1 t' r ht hn hr this
  · have := (g3 s' hs hl hd).2
    rw [e] at this
    exact h2 s' hs hn this
theorem sm_p0_none {z : sm_Z} {T ft : Nat} {own : Nat → Nat} (g : sm_rgs T ft own (z 11) (z 12) (z 13) (z 21) (z 22) (z 30)) {t s : Nat} : sm_p0 z T t s 99 := by
  obtain ⟨g1, g2, g3⟩ := g
  refine ⟨fun t' r ht hn hr e => ?_, fun s' hs hn hl hd e => ?_⟩
  · have := sm_cl_lt (g2 t' r ht hr).1
    omega
  · have := sm_cl_lt (g3 s' hs hl hd).1
    omega
theorem sm_n21 {x : Int32} (h : x = -1) : x < 0 := by
  subst h
  decide
/-- whether an entry names a register -/
theorem sm_ent_d {z : sm_Z} {t s : Nat} {R M P R' M' P' : Nat → Int32} (h : sm_ent z t s R M P R' M' P') :
    (z 21 s < 0 → P' = P) ∧ (¬ z 21 s < 0 → ∃ d, d < 8 ∧ z 21 s = nI d ∧ z 23 s = P d ∧ P' = sm_u8 P d (z 22 s)) := by
  obtain ⟨h30, hb | ⟨p, o, g, m, h17, hp, hsz, ho, hg, hm, ho0, hA, hB, hw, hn, hR, hM, hs⟩⟩ := h
  · exact ⟨fun _ => hb.2.2.2, fun h => absurd (sm_n21 hb.1.2.1) h⟩
  · have hd := sm_rd_lt g
    by_cases w : sm_wr o
    · refine ⟨fun h => absurd h ?_, fun _ => ⟨sm_rd g, hd, (hw w).1, (hw w).2.1, (hw w).2.2⟩⟩
      rw [(hw w).1]
      exact nI_pos (by omega)
    · exact ⟨fun _ => (hn w).2, fun h => absurd (sm_n21 (hn w).1) h⟩
theorem sm_k_sqA {T ex : Nat} {z : sm_Z} {H N : Nat → Nat} {R M P : Nat → Nat → Nat → Int32} {own : Nat → Nat} {ft q : Nat} (c : sm_cor T ex z H N R M P own ft q)
    {t k s : Nat} (ht : t < T) (hk : N t = k + 1) (hs : s = sm_sl (H t) t k) {z' : sm_Z} (hd : z 21 s < 0)
    (f : ∀ j i, ¬ (j = 30 ∧ i = s) → ¬ (j = 16 ∧ i = t) → z' j i = z j i) (h30 : z' 30 s = 0) (h16 : z' 16 t = nI k) :
    sm_cor T ex z' H (sm_fn N t k) R M P own ft q := by
  have hc := c
  obtain ⟨hT, hex, hth, hrg, hft, hcn, hlv, hq, q1, q2, q3, q4⟩ := c
  have hrg' := hrg
  obtain ⟨g1, g2, g3⟩ := hrg
  obtain ⟨c1, c2, c3, c4, c5, c6, c7, c8, c9⟩ := hth t ht
  have hs12 := sm_sl_rng (t := t) c2 (show k < 12 by omega)
  rw [← hs] at hs12
  have F : sm_fp z z' t s 99 := fun j i _ _ _ _ _ _ _ _ _ => f j i (by omega) (by omega)
  have P0 : sm_p0 z T t s 99 := sm_p0_none hrg'
  have r11 : z' 11 = z 11 := funext fun i => f 11 i (by omega) (by omega)
  have r12 : z' 12 = z 12 := funext fun i => f 12 i (by omega) (by omega)
  have r13 : z' 13 = z 13 := funext fun i => f 13 i (by omega) (by omega)
  have r21 : z' 21 = z 21 := funext fun i => f 21 i (by omega) (by omega)
  have r22 : z' 22 = z 22 := funext fun i => f 22 i (by omega) (by omega)
  have r30 : ∀ i, i ≠ s → z' 30 i = z 30 i := fun i hi => f 30 i (by omega) (by omega)
  refine ⟨hT, hex, fun t' ht' => ?_, ⟨?_, ?_, ?_⟩, ?_, ?_, ?_, ?_, q1, ?_, ?_, ?_⟩
  · by_cases e : t' = t
    · subst e
      rw [sm_fn_y]
      refine ⟨?_, c2, h16, by omega, ?_, ?_, ?_, ?_, fun j hj => ?_⟩
      · rw [f 15 t' (by omega) (by omega)]
        exact c1
      · rw [c5, r13]
        funext r
        show _ = z' 10 _
        rw [f 10 _ (by omega) (by omega)]
      · rw [c6]
        funext r
        show _ = z' 5 _
        rw [f 5 _ (by omega) (by omega)]
      · rw [c7, r13]
      · have e1 := (sm_ent_d (c9 k (by omega))).1 (by rw [← hs]; exact hd)
        rw [← e1, ← hk, c8]
        funext r
        show _ = z' 14 _
        rw [f 14 _ (by omega) (by omega)]
      · have hj' := sm_sl_rng (t := t') c2 (show j < 12 by omega)
        refine sm_ent_fr (sm_fp_ags F P0 (by omega) (fun e => ?_) (c9 j (by omega)).1) (c9 j (by omega))
        rw [hs] at e
        have := sm_sl_inj c2 (by omega) (by omega) e
        omega
    · rw [sm_fn_n N e]
      exact sm_fp_oth hT F P0 (by omega) ht' e (hth t' ht')
  · rw [r12]
    exact g1
  · rw [r13, r11]
    exact g2
  · rw [r21, r22]
    intro s' hs' hl
    by_cases e : s' = s
    · subst e
      exact absurd h30 hl
    · rw [r30 s' e] at hl
      exact g3 s' hs' hl
  · rw [f 0 3 (by omega) (by omega)]
    exact hft
  · rw [← hcn]
    congr 1
    refine sm_cnt_eq 48 (fun i _ => ?_)
    unfold sm_wt
    rw [r21]
    by_cases e : i = s
    · subst e
      rw [if_pos (Or.inr hd), if_pos (Or.inr hd)]
    · rw [r30 i e]
  · intro s' hs' hl
    by_cases e : s' = s
    · subst e
      exact absurd h30 hl
    · rw [r30 s' e] at hl
      obtain ⟨t', k', h1, h2, h3⟩ := hlv s' hs' hl
      refine ⟨t', k', h1, ?_, h3⟩
      by_cases e' : t' = t
      · subst e'
        rw [sm_fn_y]
        rcases Nat.lt_or_ge k' k with h | h
        · exact h
        · exact absurd (by rw [h3, hs, show k' = k by omega]) e
      · rw [sm_fn_n N e']
        exact h2
  · rw [f 0 4 (by omega) (by omega)]
    exact hq
  · intro i hi
    rw [f 31 i (by omega) (by omega)]
    exact q2 i hi
  · intro i j hi hj
    rw [f 31 i (by omega) (by omega), f 31 j (by omega) (by omega)]
    exact q3 i j hi hj
  · intro t' k' ht' hk' h18
    rw [f 18 _ (by omega) (by omega)] at h18
    have hk2 : k' < N t' := by
      by_cases e : t' = t
      · subst e
        rw [sm_fn_y] at hk'
        omega
      · rw [sm_fn_n N e] at hk'
        exact hk'
    obtain ⟨i, hi, e⟩ := q4 t' k' ht' hk2 h18
    refine ⟨i, hi, ?_⟩
    rw [f 31 i (by omega) (by omega)]
    exact e
theorem sm_k_sqB {T ex : Nat} {z : sm_Z} {H N : Nat → Nat} {R M P : Nat → Nat → Nat → Int32} {own : Nat → Nat} {ft q : Nat} (c : sm_cor T ex z H N R M P own ft q)
    {t k s : Nat} (ht : t < T) (hk : N t = k + 1) (hs : s = sm_sl (H t) t k) {z' : sm_Z} (hd : ¬ z 21 s < 0)
    (f : ∀ j i, ¬ (j = 30 ∧ i = s) → ¬ (j = 16 ∧ i = t) → ¬ (j = 14 ∧ i = t * 8 + (z 21 s).toNatClampNeg) → ¬ (j = 11 ∧ i = (z 22 s).toNatClampNeg) → ¬ (j = 12 ∧ i = ft) → ¬ (j = 0 ∧ i = 3) → z' j i = z j i)
    (h30 : z' 30 s = 0) (h16 : z' 16 t = nI k) (h14 : z' 14 (t * 8 + (z 21 s).toNatClampNeg) = z 23 s) (h11 : z' 11 (z 22 s).toNatClampNeg = 1) (h12 : z' 12 ft = z 22 s) (h03 : z' 0 3 = nI (ft + 1)) :
    sm_cor T ex z' H (sm_fn N t k) R M P (fun p => if p = (z 22 s).toNatClampNeg then ft else own p) (ft + 1) q := by
  have hc := c
  obtain ⟨hT, hex, hth, hrg, hft, hcn, hlv, hq, q1, q2, q3, q4⟩ := c
  have hrg' := hrg
  obtain ⟨g1, g2, g3⟩ := hrg
  obtain ⟨c1, c2, c3, c4, c5, c6, c7, c8, c9⟩ := hth t ht
  have hs12 := sm_sl_rng (t := t) c2 (show k < 12 by omega)
  rw [← hs] at hs12
  have ce := c9 k (by omega)
  rw [← hs] at ce
  obtain ⟨d, hd8, e21, e23, eP⟩ := (sm_ent_d ce).2 hd
  have ed : (z 21 s).toNatClampNeg = d := by rw [e21, nI_clamp (by omega)]
  rw [ed] at f h14
  obtain ⟨hpi, hpo⟩ := g3 s (by omega) (by rw [ce.1]; decide) hd
  have hp56 := sm_cl_lt hpi
  generalize hpe : (z 22 s).toNatClampNeg = p at *
  have F : sm_fp z z' t s p := fun j i _ _ _ _ _ _ _ _ _ => f j i (by omega) (by omega) (by omega) (by omega) (by omega) (by omega)
  have P0 : sm_p0 z T t s p := sm_p0_own hrg' (fun t' r h1 h2 h3 => by omega) (fun s' h1 h2 => by omega)
  have r13 : z' 13 = z 13 := funext fun i => f 13 i (by omega) (by omega) (by omega) (by omega) (by omega) (by omega)
  have r21 : z' 21 = z 21 := funext fun i => f 21 i (by omega) (by omega) (by omega) (by omega) (by omega) (by omega)
  have r22 : z' 22 = z 22 := funext fun i => f 22 i (by omega) (by omega) (by omega) (by omega) (by omega) (by omega)
  have r31 : z' 31 = z 31 := funext fun i => f 31 i (by omega) (by omega) (by omega) (by omega) (by omega) (by omega)
  have r30 : ∀ i, i ≠ s → z' 30 i = z 30 i := fun i hi => f 30 i (by omega) (by omega) (by omega) (by omega) (by omega) (by omega)
  have r11 : ∀ i, i ≠ p → z' 11 i = z 11 i := fun i hi => f 11 i (by omega) (by omega) (by omega) (by omega) (by omega) (by omega)
  refine ⟨hT, hex, fun t' ht' => ?_, ⟨?_, ?_, ?_⟩, h03, ?_, ?_, ?_, q1, ?_, ?_, ?_⟩
  · by_cases e : t' = t
    · subst e
      rw [sm_fn_y]
      refine ⟨?_, c2, h16, by omega, ?_, ?_, ?_, ?_, fun j hj => ?_⟩
      · rw [f 15 t' (by omega) (by omega) (by omega) (by omega) (by omega) (by omega)]
        exact c1
      · rw [c5, r13]
        funext r
        show _ = z' 10 _
        rw [f 10 _ (by omega) (by omega) (by omega) (by omega) (by omega) (by omega)]
      · rw [c6]
        funext r
        show _ = z' 5 _
        rw [f 5 _ (by omega) (by omega) (by omega) (by omega) (by omega) (by omega)]
      · rw [c7, r13]
      · have e8 : P t' (k + 1) = fun r => z 14 (t' * 8 + r % 8) := by rw [← hk]; exact c8
        funext r
        show _ = z' 14 _
        by_cases er : r % 8 = d
        · rw [er, h14, e23]
          have e7 : P t' k r = P t' k (r % 8) := by
            exact sm_map8 hc ht k (by omega) r
          rw [e7, er]
        · rw [f 14 _ (by omega) (by omega) (by omega) (by omega) (by omega) (by omega)]
          have e9 := congrFun e8 r
          rw [eP] at e9
          unfold sm_u8 at e9
          try dsimp only at e9
          rw [if_neg er] at e9
          exact e9
      · have hj' := sm_sl_rng (t := t') c2 (show j < 12 by omega)
        refine sm_ent_fr (sm_fp_ags F P0 (by omega) (fun e => ?_) (c9 j (by omega)).1) (c9 j (by omega))
        rw [hs] at e
        have := sm_sl_inj c2 (by omega) (by omega) e
        omega
    · rw [sm_fn_n N e]
      exact sm_fp_oth hT F P0 (by omega) ht' e (hth t' ht')
  · intro i hi
    by_cases e : i = ft
    · subst e
      rw [h12, hpe]
      exact ⟨hpi, if_pos rfl⟩
    · rw [f 12 i (by omega) (by omega) (by omega) (by omega) (by omega) (by omega)]
      obtain ⟨h1, h2⟩ := g1 i (by omega)
      refine ⟨h1, ?_⟩
      try dsimp only
      rw [if_neg (fun e' => ?_)]
      · exact h2
      · rw [e'] at h2
        omega
  · intro t' r ht' hr
    rw [r13]
    obtain ⟨h1, h2, h3⟩ := g2 t' r ht' hr
    have hne : (z 13 (t' * 8 + r)).toNatClampNeg ≠ p := fun e' => by
      rw [e'] at h2
      omega
    refine ⟨h1, ?_, ?_⟩
    · try dsimp only
      rw [if_neg hne]
      exact h2
    · rw [r11 _ hne]
      exact h3
  · rw [r21, r22]
    intro s' hs' hl hd'
    by_cases e : s' = s
    · subst e
      exact absurd h30 hl
    · rw [r30 s' e] at hl
      obtain ⟨h1, h2⟩ := g3 s' hs' hl hd'
      refine ⟨h1, ?_⟩
      try dsimp only
      rw [if_neg (fun e' => ?_)]
      · exact h2
      · rw [e'] at h2
        omega
  · have := sm_cnt_one (a := z' 21) (b := z' 30) (c := z 21) (d := z 30) (s := s) 48 (by omega) (fun i _ hi => by
      unfold sm_wt
      rw [r21, r30 i hi])
    have w1 : sm_wt (z 21) (z 30) s = 1 := by
      unfold sm_wt
      rw [if_neg (fun h => ?_)]
      rcases h with h | h
      · rw [ce.1] at h
        exact absurd h (by decide)
      · exact hd h
    have w2 : sm_wt (z' 21) (z' 30) s = 0 := by
      unfold sm_wt
      rw [if_pos (Or.inl h30)]
    omega
  · intro s' hs' hl
    by_cases e : s' = s
    · subst e
      exact absurd h30 hl
    · rw [r30 s' e] at hl
      obtain ⟨t', k', h1, h2, h3⟩ := hlv s' hs' hl
      refine ⟨t', k', h1, ?_, h3⟩
      by_cases e' : t' = t
      · subst e'
        rw [sm_fn_y]
        rcases Nat.lt_or_ge k' k with h | h
        · exact h
        · exact absurd (by rw [h3, hs, show k' = k by omega]) e
      · rw [sm_fn_n N e']
        exact h2
  · rw [f 0 4 (by omega) (by omega) (by omega) (by omega) (by omega) (by omega)]
    exact hq
  · rw [r31]
    exact q2
  · rw [r31]
    exact q3
  · intro t' k' ht' hk' h18
    rw [f 18 _ (by omega) (by omega) (by omega) (by omega) (by omega) (by omega)] at h18
    have hk2 : k' < N t' := by
      by_cases e : t' = t
      · subst e
        rw [sm_fn_y] at hk'
        omega
      · rw [sm_fn_n N e] at hk'
        exact hk'
    rw [r31]
    exact q4 t' k' ht' hk2 h18
end
section
/-! the queue is purged -/
def sm_kp (z : sm_Z) (x : Int32) : Prop := z 30 x.toNatClampNeg ≠ 0 ∧ z 18 x.toNatClampNeg = 0
def sm_pq (z z' : sm_Z) (q c : Nat) : Prop :=
  c ≤ q ∧ (∀ j, j < c → ∃ i, i < q ∧ z' 31 j = z 31 i ∧ sm_kp z (z 31 i)) ∧ (∀ i j, i < j → j < c → z' 31 i ≠ z' 31 j) ∧
  (∀ i, i < q → sm_kp z (z 31 i) → ∃ j, j < c ∧ j ≤ i ∧ z' 31 j = z 31 i ∧ ((∃ i0, i0 < i ∧ ¬ sm_kp z (z 31 i0)) → j < i)) ∧
  ((∃ i0, i0 < q ∧ ¬ sm_kp z (z 31 i0)) → c < q)
theorem sm_pq_no {z w : sm_Z} {i c : Nat} (h : sm_pq z w i c) (hn : ¬ sm_kp z (z 31 i)) : sm_pq z w (i + 1) c := by
  obtain ⟨h1, h2, h3, h4, h5⟩ := h
  refine ⟨by omega, fun j hj => ?_, h3, fun i' hi' hk => ?_, fun _ => by omega⟩
  · obtain ⟨i', a, b⟩ := h2 j hj
    exact ⟨i', by omega, b⟩
  · by_cases e : i' = i
    · subst e
      exact absurd hk hn
    · exact h4 i' (by omega) hk
theorem sm_pq_yes {z w w' : sm_Z} {i c q : Nat} (h : sm_pq z w i c) (hi : i < q) (hd : ∀ i j, i < j → j < q → z 31 i ≠ z 31 j) (hk : sm_kp z (z 31 i)) (hw : ∀ j, j ≠ c → w' 31 j = w 31 j) (hc : w' 31 c = z 31 i) : sm_pq z w' (i + 1) (c + 1) := by
  obtain ⟨h1, h2, h3, h4, h5⟩ := h
  refine ⟨by omega, fun j hj => ?_, fun a b hab hb => ?_, fun i' hi' hk' => ?_, fun ⟨i0, g1, g2⟩ => ?_⟩
  · by_cases e : j = c
    · subst e
      exact ⟨i, by omega, hc, hk⟩
    · obtain ⟨i', a, b⟩ := h2 j (by omega)
      rw [hw j e]
      exact ⟨i', by omega, b⟩
  · rw [hw a (by omega)]
    by_cases e : b = c
    · subst e
      rw [hc]
      obtain ⟨i', a1, a2, _⟩ := h2 a (by omega)
      rw [a2]
      exact hd i' i a1 hi
    · rw [hw b e]
      exact h3 a b hab (by omega)
  · by_cases e : i' = i
    · subst e
      exact ⟨c, by omega, by omega, hc, h5⟩
    · obtain ⟨j, a, b, d, f⟩ := h4 i' (by omega) hk'
      exact ⟨j, by omega, b, by rw [hw j (by omega)]; exact d, f⟩
  · by_cases e : i0 = i
    · subst e
      exact absurd hk g2
    · have := h5 ⟨i0, by omega, g2⟩
      omega
theorem sm_pq_loop {post : St2 → Prop} {z : sm_Z} {q : Nat} (hq : z 0 4 = nI q) (hq16 : q ≤ 16) (hin : ∀ i, i < q → vp_in (z 31 i) 48) (hd : ∀ i j, i < j → j < q → z 31 i ≠ z 31 j)
    (hp : ∀ (z' : sm_Z) (c : Nat), (∀ j x, j ≠ 31 → ¬ (j = 0 ∧ x = 4) → z' j x = z j x) → z' 0 4 = nI c → sm_pq z z' q c → post (sm_tp z')) :
    ∀ (m i c : Nat) (w : sm_Z), q - i = m → i ≤ q → (∀ j x, j ≠ 31 → w j x = z j x) → (∀ x, i ≤ x → w 31 x = z 31 x) → sm_pq z w i c →
      wX_purgeQueue_4 post (w 0 0) (w 0 1) (w 0 2) (w 0 3) (w 0 4) (w 0 5) (m + 1) (nI c) (nI i) (w 1) (w 2) (w 3) (w 4) (w 5) (w 6) (w 7) (w 8) (w 9) (w 10) (w 11) (w 12) (w 13) (w 14) (w 15) (w 16) (w 17) (w 18) (w 19) (w 20) (w 21) (w 22) (w 23) (w 24) (w 25) (w 26) (w 27) (w 28) (w 29) (w 30) (w 31) (w 32) (w 33) (w 34) (w 35) (w 36) (w 37) := by
  intro m
  induction m with
  | zero =>
    intro i c w hm hi f g h
    have e : i = q := by omega
    subst e
    refine pk_le i i (fun _ => ?_) (fun h => absurd h (by omega)) (hx := by rw [f 0 4 (by omega)]; exact hq)
    refine hp (sm_up w 0 4 (nI c)) c (fun j x h1 h2 => ?_) ?_ ?_
    · rw [sm_up_n _ _ _ _ (by omega)]
      exact f j x h1
    · exact sm_up_y _ _ _ _
    · exact h
  | succ m ih =>
    intro i c w hm hi f g h
    have f30 : w 30 = z 30 := funext fun x => f 30 x (by omega)
    have f18 : w 18 = z 18 := funext fun x => f 18 x (by omega)
    refine pk_le q i (fun h => absurd h (by omega)) (fun _ => ⟨pk_in i 16 (by omega), nm_r (e' := z 31 i) (by rw [nI_clamp (by omega)]; exact g i (by omega)) ⟨hin i (by omega), ?_⟩⟩) (hx := by rw [f 0 4 (by omega)]; exact hq)
    rw [f30, f18]
    refine br_c (fun h0 => nm_r (nI_1 i) ?_) (fun h0 => ⟨hin i (by omega), br_c (fun h1 => ⟨pk_in c 16 (by have := h.1; omega), nm_r (e' := upd (w 31) c (z 31 i)) (by rw [nI_clamp (by have := h.1; omega)]) (nm_r (nI_1 c) (nm_r (nI_1 i) ?_))⟩) (fun h1 => nm_r (nI_1 i) ?_)⟩)
    · rw [← f30, ← f18]
      exact ih (i + 1) c w (by omega) (by omega) f (fun x hx => g x (by omega)) (sm_pq_no h (fun k => k.1 h0))
    · rw [← f30, ← f18]
      refine ih (i + 1) (c + 1) (sm_up w 31 c (z 31 i)) (by omega) (by omega) (fun j x hj => ?_) (fun x hx => ?_) (sm_pq_yes h (by omega) hd ⟨h0, h1⟩ (fun j hj => ?_) ?_)
      · rw [sm_up_n _ _ _ _ (by omega)]
        exact f j x hj
      · have := h.1
        rw [sm_up_n _ _ _ _ (by omega)]
        exact g x (by omega)
      · rw [sm_up_n _ _ _ _ (by omega)]
      · exact sm_up_y _ _ _ _
    · rw [← f30, ← f18]
      exact ih (i + 1) c w (by omega) (by omega) f (fun x hx => g x (by omega)) (sm_pq_no h (fun k => h1 k.2))
theorem sm_w_purge {post : St2 → Prop} {z : sm_Z} {q : Nat} (hq : z 0 4 = nI q) (hq16 : q ≤ 16) (hin : ∀ i, i < q → vp_in (z 31 i) 48) (hd : ∀ i j, i < j → j < q → z 31 i ≠ z 31 j)
    (hp : ∀ (z' : sm_Z) (c : Nat), (∀ j x, j ≠ 31 → ¬ (j = 0 ∧ x = 4) → z' j x = z j x) → z' 0 4 = nI c → sm_pq z z' q c → post (sm_tp z')) : wpX_purgeQueue post (sm_tp z) :=
  ⟨q + 1, sm_pq_loop hq hq16 hin hd hp q 0 0 z (by omega) (by omega) (fun _ _ _ => rfl) (fun _ _ => rfl)
    ⟨by omega, fun j hj => absurd hj (by omega), fun i j _ hj => absurd hj (by omega), fun i hi => absurd hi (by omega), fun ⟨i, hi, _⟩ => absurd hi (by omega)⟩⟩
/-- every queued entry is alive and waits -/
def sm_qs (z : sm_Z) (q : Nat) : Prop := ∀ i, i < q → sm_kp z (z 31 i)
def sm_pos (z : sm_Z) (s i : Nat) : Prop := ∃ q, z 0 4 = nI q ∧ i < q ∧ q ≤ 16 ∧ z 31 i = nI s
/-- no place in the queue grows -/
def sm_qm (z z' : sm_Z) : Prop := ∀ s i, s < 48 → sm_pos z s i → z' 30 s ≠ 0 → z' 18 s = 0 → ∃ j, j ≤ i ∧ sm_pos z' s j
theorem sm_k_pq {T ex : Nat} {z z' : sm_Z} {H N : Nat → Nat} {R M P : Nat → Nat → Nat → Int32} {own : Nat → Nat} {ft q k : Nat} (c : sm_cor T ex z H N R M P own ft q)
    (f : ∀ j x, j ≠ 31 → ¬ (j = 0 ∧ x = 4) → z' j x = z j x) (h4 : z' 0 4 = nI k) (h : sm_pq z z' q k) : sm_cor T ex z' H N R M P own ft k ∧ sm_qs z' k := by
  obtain ⟨hT, hex, hth, hrg, hft, hcn, hlv, hq, q1, q2, q3, q4⟩ := c
  obtain ⟨p1, p2, p3, p4, _⟩ := h
  have row : ∀ j, j ≠ 31 → j ≠ 0 → z' j = z j := fun j h1 h2 => funext fun x => f j x h1 (by omega)
  refine ⟨⟨hT, hex, fun t ht => sm_thr_id (fun j i h1 h2 _ => f j i (by omega) (by omega)) (hth t ht), ?_, ?_, ?_, ?_, h4, by omega, ?_, p3, ?_⟩, ?_⟩
  · rw [row 11 (by omega) (by omega), row 12 (by omega) (by omega), row 13 (by omega) (by omega), row 21 (by omega) (by omega), row 22 (by omega) (by omega), row 30 (by omega) (by omega)]
    exact hrg
  · rw [f 0 3 (by omega) (by omega)]
    exact hft
  · rw [row 21 (by omega) (by omega), row 30 (by omega) (by omega)]
    exact hcn
  · rw [row 30 (by omega) (by omega)]
    exact hlv
  · intro i hi
    obtain ⟨i', a, b, _⟩ := p2 i hi
    rw [b]
    exact q2 i' a
  · intro t' k' ht hk h18
    rw [row 18 (by omega) (by omega)] at h18
    obtain ⟨i, hi, e⟩ := q4 t' k' ht hk h18
    obtain ⟨c1, c2, c3, c4, c5, c6, c7, c8, c9⟩ := hth t' ht
    have hs := sm_sl_lt (t := t') c2 (show k' < 12 by omega) (by omega)
    obtain ⟨j, a, b, d, _⟩ := p4 i hi (by
      unfold sm_kp
      rw [e, nI_clamp (by omega), (c9 k' hk).1]
      exact ⟨by decide, h18⟩)
    exact ⟨j, a, by rw [d, e]⟩
  · intro i hi
    obtain ⟨i', a, b, d⟩ := p2 i hi
    unfold sm_kp
    rw [row 30 (by omega) (by omega), row 18 (by omega) (by omega), b]
    exact d
theorem sm_pq_qm {z z' : sm_Z} {q k : Nat} (hq : z 0 4 = nI q) (hq16 : q ≤ 16) (f : ∀ j x, j ≠ 31 → ¬ (j = 0 ∧ x = 4) → z' j x = z j x) (h4 : z' 0 4 = nI k) (h : sm_pq z z' q k) : sm_qm z z' := by
  intro s i hs hp h30 h18
  obtain ⟨q', a, b, d, e⟩ := hp
  rw [hq] at a
  have := sm_nI_inj (by omega) (by omega) a
  subst this
  obtain ⟨j, j1, j2, j3, _⟩ := h.2.2.2.1 i b (by
    unfold sm_kp
    rw [e, nI_clamp (by omega), ← f 30 s (by omega) (by omega), ← f 18 s (by omega) (by omega)]
    exact ⟨h30, h18⟩)
  exact ⟨j, j2, k, h4, j1, by have := h.1; omega, by rw [j3, e]⟩
/-! entries are squashed -/
def sm_sqf (z z' : sm_Z) (t : Nat) : Prop :=
  (∀ j i, j ≠ 0 → j ≠ 11 → j ≠ 12 → j ≠ 14 → j ≠ 16 → j ≠ 30 → j ≠ 31 → z' j i = z j i) ∧ (∀ i, i ≠ 3 → i ≠ 4 → z' 0 i = z 0 i) ∧ (∀ i, i ≠ t → z' 16 i = z 16 i)
theorem sm_sqf_r (z : sm_Z) (t : Nat) : sm_sqf z z t := ⟨fun _ _ _ _ _ _ _ _ _ => rfl, fun _ _ _ => rfl, fun _ _ => rfl⟩
theorem sm_sqf_t {z z' z'' : sm_Z} {t : Nat} (a : sm_sqf z z' t) (b : sm_sqf z' z'' t) : sm_sqf z z'' t :=
  ⟨fun j i h1 h2 h3 h4 h5 h6 h7 => (b.1 j i h1 h2 h3 h4 h5 h6 h7).trans (a.1 j i h1 h2 h3 h4 h5 h6 h7), fun i h1 h2 => (b.2.1 i h1 h2).trans (a.2.1 i h1 h2), fun i h => (b.2.2 i h).trans (a.2.2 i h)⟩
theorem sm_fn_fn (N : Nat → Nat) (t a b : Nat) : sm_fn (sm_fn N t a) t b = sm_fn N t b := by
  funext t'
  unfold sm_fn
  by_cases e : t' = t
  · rw [if_pos e, if_pos e]
  · rw [if_neg e, if_neg e, if_neg e]
theorem sm_fn_id (N : Nat → Nat) (t : Nat) : sm_fn N t (N t) = N := by
  funext t'
  unfold sm_fn
  by_cases e : t' = t
  · rw [if_pos e, e]
  · rw [if_neg e]
theorem sm_m1lt {n k : Nat} (hn : n ≤ 12) (hk : k ≤ 12) : nI n - 1 < nI k ↔ n ≤ k := by
  cases n with
  | zero =>
    constructor
    · intro _
      omega
    · intro _
      rw [Int32.lt_iff_toInt_lt, nI_toInt (by omega)]
      have : (nI 0 - 1).toInt = -1 := by decide
      omega
  | succ n =>
    rw [nI_pred, nI_ltI (by omega) (by omega)]
    omega
theorem sm_w_give {post : St2 → Prop} {z : sm_Z} {p : Int32} {ft : Nat} (hp : vp_in p 56) (hf : z 0 3 = nI ft) (hf56 : ft < 56)
    (h : post (sm_tp (sm_up (sm_up (sm_up z 11 p.toNatClampNeg 1) 12 ft p) 0 3 (nI (ft + 1))))) : wpX_giveBack post (sm_tp z) p := by
  refine ⟨hp, nm_e ⟨?_, nm_r (e' := upd (z 12) ft p) ?_ (nm_r (e' := nI (ft + 1)) ?_ ?_)⟩⟩
  · rw [hf]
    exact vp_in_nI hf56 (by decide)
  · rw [hf, nI_clamp (by omega)]
  · rw [hf, nI_1]
  · exact h
theorem sm_sq_loop {post : St2 → Prop} {T ex t kp : Nat} {H N : Nat → Nat} {R M P : Nat → Nat → Nat → Int32} {z0 : sm_Z} (ht : t < T) (hkp : kp ≤ 12)
    (h31 : ∀ q, z0 0 4 = nI q → q ≤ 16 → True)
    (hp : ∀ (z' : sm_Z) (own : Nat → Nat) (ft q : Nat), sm_cor T ex z' H (sm_fn N t kp) R M P own ft q → sm_qs z' q → sm_sqf z0 z' t → sm_qm z0 z' → post (sm_tp z')) :
    ∀ (m n : Nat) (z : sm_Z) (own : Nat → Nat) (ft q : Nat), n = kp + m → sm_cor T ex z H (sm_fn N t n) R M P own ft q → sm_sqf z0 z t → z 31 = z0 31 → z 0 4 = z0 0 4 →
      wX_squashTo_9 post (nI t) (nI kp) (m + 1) (nI n - 1) (z 0 0) (z 0 1) (z 0 2) (z 0 3) (z 0 4) (z 0 5) (z 1) (z 2) (z 3) (z 4) (z 5) (z 6) (z 7) (z 8) (z 9) (z 10) (z 11) (z 12) (z 13) (z 14) (z 15) (z 16) (z 17) (z 18) (z 19) (z 20) (z 21) (z 22) (z 23) (z 24) (z 25) (z 26) (z 27) (z 28) (z 29) (z 30) (z 31) (z 32) (z 33) (z 34) (z 35) (z 36) (z 37) := by
  intro m
  induction m with
  | zero =>
    intro n z own ft q hn c f e31 e04
    have cc := c
    obtain ⟨hT, hex, hth, hrg, hft, hcn, hlv, hq, q1, q2, q3, q4⟩ := cc
    refine br_t ((sm_m1lt (by omega) hkp).mpr (by omega)) ?_
    refine sm_w_purge hq q1 q2 q3 (fun z' k f' h4 hpq => ?_)
    have hc := sm_k_pq c f' h4 hpq
    have en : n = kp := by omega
    subst en
    refine hp z' own ft k hc.1 hc.2 (sm_sqf_t f ⟨fun j i h1 h2 h3 h4 h5 h6 h7 => f' j i h7 (by omega), fun i h1 h2 => f' 0 i (by omega) (by omega), fun i _ => f' 16 i (by omega) (by omega)⟩) ?_
    intro s i hs hpo h30 h18
    refine sm_pq_qm hq q1 f' h4 hpq s i hs ?_ h30 h18
    obtain ⟨q', a, b, d, e⟩ := hpo
    exact ⟨q', by rw [e04]; exact a, b, d, by rw [e31]; exact e⟩
  | succ m ih =>
    intro n z own ft q hn c f e31 e04
    have cc := c
    obtain ⟨hT, hex, hth, hrg, hft, hcn, hlv, hq, q1, q2, q3, q4⟩ := cc
    have ct := hth t ht
    rw [sm_fn_y] at ct
    obtain ⟨c1, c2, c3, c4, c5, c6, c7, c8, c9⟩ := ct
    obtain ⟨k, rfl⟩ : ∃ k, n = k + 1 := ⟨kp + m, by omega⟩
    rw [nI_pred]
    refine br_f (by rw [nI_ltI (by omega) (by omega)]; omega) ?_
    refine sm_w_slot c1 (by omega) c2 (by omega) ?_
    have hs48 := sm_sl_lt (t := t) c2 (show k < 12 by omega) (by omega)
    have hin := vp_in_nI hs48 (by decide)
    have ecl : (nI (sm_sl (H t) t k)).toNatClampNeg = sm_sl (H t) t k := nI_clamp (by omega)
    have ce := c9 k (by omega)
    have e3 : nI k + (-1) = nI k - 1 := by grind
    refine ⟨hin, ?_⟩
    rw [ecl]
    refine br_c (fun hd => ?_) (fun hd => ?_)
    · have step := sm_k_sqA (z' := sm_up (sm_up z 30 (sm_sl (H t) t k) 0) 16 t (nI k)) c ht (k := k) (sm_fn_y _ _ _) rfl hd
        (fun j i h1 h2 => by rw [sm_up_n _ _ _ _ (by omega), sm_up_n _ _ _ _ (by omega)]) (by rw [sm_up_n _ _ _ _ (by omega), sm_up_y]) (sm_up_y _ _ _ _)
      rw [sm_fn_fn] at step
      refine ⟨hin, ?_⟩
      rw [ecl]
      refine nm_e ⟨vp_in_nI (by omega) (by decide), ?_⟩
      rw [nI_clamp (show t < 2 ^ 31 by omega)]
      refine nm_e (nm_r e3 ?_)
      refine ih k (sm_up (sm_up z 30 (sm_sl (H t) t k) 0) 16 t (nI k)) own ft q (by omega) step (sm_sqf_t f ⟨fun j i h1 h2 h3 h4 h5 h6 h7 => ?_, fun i h1 h2 => ?_, fun i h1 => ?_⟩) ?_ ?_
      · rw [sm_up_n _ _ _ _ (by omega), sm_up_n _ _ _ _ (by omega)]
      · rw [sm_up_n _ _ _ _ (by omega), sm_up_n _ _ _ _ (by omega)]
      · rw [sm_up_n _ _ _ _ (by omega), sm_up_n _ _ _ _ (by omega)]
      · exact e31
      · exact e04
    · obtain ⟨d, hd8, e21, e23, eP⟩ := (sm_ent_d ce).2 hd
      obtain ⟨hpi, hpo⟩ := hrg.2.2 _ hs48 (by rw [ce.1]; decide) hd
      have hft56 : ft < 56 := by omega
      have ei : nI t * 8 + z 21 (sm_sl (H t) t k) = nI (t * 8 + d) := by
        rw [e21, show (8 : Int32) = nI 8 from rfl, pk_mul, nI_add]
      have e21c : (z 21 (sm_sl (H t) t k)).toNatClampNeg = d := by rw [e21, nI_clamp (by omega)]
      have step := sm_k_sqB (z' := sm_up (sm_up (sm_up (sm_up (sm_up (sm_up z 14 (t * 8 + d) (z 23 (sm_sl (H t) t k))) 11 (z 22 (sm_sl (H t) t k)).toNatClampNeg 1) 12 ft (z 22 (sm_sl (H t) t k))) 0 3 (nI (ft + 1))) 30 (sm_sl (H t) t k) 0) 16 t (nI k)) c ht (k := k) (sm_fn_y _ _ _) rfl hd
        (fun j i h1 h2 h3 h4 h5 h6 => by
          rw [e21c] at h3
          rw [sm_up_n _ _ _ _ (by omega), sm_up_n _ _ _ _ (by omega), sm_up_n _ _ _ _ (by omega), sm_up_n _ _ _ _ (by omega), sm_up_n _ _ _ _ (by omega), sm_up_n _ _ _ _ (by omega)])
        (by rw [sm_up_n _ _ _ _ (by omega), sm_up_y]) (sm_up_y _ _ _ _)
        (by rw [e21c, sm_up_n _ _ _ _ (by omega), sm_up_n _ _ _ _ (by omega), sm_up_n _ _ _ _ (by omega), sm_up_n _ _ _ _ (by omega), sm_up_n _ _ _ _ (by omega), sm_up_y])
        (by rw [sm_up_n _ _ _ _ (by omega), sm_up_n _ _ _ _ (by omega), sm_up_n _ _ _ _ (by omega), sm_up_n _ _ _ _ (by omega), sm_up_y])
        (by rw [sm_up_n _ _ _ _ (by omega), sm_up_n _ _ _ _ (by omega), sm_up_n _ _ _ _ (by omega), sm_up_y])
        (by rw [sm_up_n _ _ _ _ (by omega), sm_up_n _ _ _ _ (by omega), sm_up_y])
      rw [sm_fn_fn] at step
      refine ⟨hin, hin, ?_⟩
      rw [ei]
      refine ⟨vp_in_nI (by omega) (by decide), nm_r (e' := upd (z 14) (t * 8 + d) (z 23 (sm_sl (H t) t k))) (by rw [nI_clamp (by omega)]) ⟨hin, ?_⟩⟩
      refine sm_w_give (z := sm_up z 14 (t * 8 + d) (z 23 (sm_sl (H t) t k))) hpi hft hft56 ?_
      refine ⟨hin, ?_⟩
      rw [ecl]
      refine nm_e ⟨vp_in_nI (by omega) (by decide), ?_⟩
      rw [nI_clamp (show t < 2 ^ 31 by omega)]
      refine nm_e (nm_r e3 ?_)
      refine ih k (sm_up (sm_up (sm_up (sm_up (sm_up (sm_up z 14 (t * 8 + d) (z 23 (sm_sl (H t) t k))) 11 (z 22 (sm_sl (H t) t k)).toNatClampNeg 1) 12 ft (z 22 (sm_sl (H t) t k))) 0 3 (nI (ft + 1))) 30 (sm_sl (H t) t k) 0) 16 t (nI k)) _ (ft + 1) q (by omega) step (sm_sqf_t f ⟨fun j i h1 h2 h3 h4 h5 h6 h7 => ?_, fun i h1 h2 => ?_, fun i h1 => ?_⟩) ?_ ?_
      · rw [sm_up_n _ _ _ _ (by omega), sm_up_n _ _ _ _ (by omega), sm_up_n _ _ _ _ (by omega), sm_up_n _ _ _ _ (by omega), sm_up_n _ _ _ _ (by omega), sm_up_n _ _ _ _ (by omega)]
      · rw [sm_up_n _ _ _ _ (by omega), sm_up_n _ _ _ _ (by omega), sm_up_n _ _ _ _ (by omega), sm_up_n _ _ _ _ (by omega), sm_up_n _ _ _ _ (by omega), sm_up_n _ _ _ _ (by omega)]
      · rw [sm_up_n _ _ _ _ (by omega), sm_up_n _ _ _ _ (by omega), sm_up_n _ _ _ _ (by omega), sm_up_n _ _ _ _ (by omega), sm_up_n _ _ _ _ (by omega), sm_up_n _ _ _ _ (by omega)]
      · exact e31
      · exact e04
theorem sm_w_sq {post : St2 → Prop} {T ex t kp : Nat} {H N : Nat → Nat} {R M P : Nat → Nat → Nat → Int32} {z : sm_Z} {own : Nat → Nat} {ft q : Nat} (c : sm_cor T ex z H N R M P own ft q) (ht : t < T) (hkp : kp ≤ N t)
    (hp : ∀ (z' : sm_Z) (own : Nat → Nat) (ft q : Nat), sm_cor T ex z' H (sm_fn N t kp) R M P own ft q → sm_qs z' q → sm_sqf z z' t → sm_qm z z' → post (sm_tp z')) : wpX_squashTo post (sm_tp z) (nI t) (nI kp) := by
  have cc := c
  obtain ⟨hT, hex, hth, hrg, hft, hcn, hlv, hq, q1, q2, q3, q4⟩ := cc
  obtain ⟨c1, c2, c3, c4, c5, c6, c7, c8, c9⟩ := hth t ht
  refine ⟨vp_in_nI (by omega) (by decide), ?_⟩
  rw [nI_clamp (show t < 2 ^ 31 by omega), c3]
  refine nm_e ⟨N t - kp + 1, ?_⟩
  exact sm_sq_loop ht (by omega) (fun _ _ _ => trivial) hp (N t - kp) (N t) z own ft q (by omega) (by rw [sm_fn_id]; exact c) (sm_sqf_r z t) rfl rfl
theorem sm_w_stop {post : St2 → Prop} {T ex t : Nat} {H N : Nat → Nat} {R M P : Nat → Nat → Nat → Int32} {z : sm_Z} {own : Nat → Nat} {ft q : Nat} (c : sm_cor T ex z H N R M P own ft q) (ht : t < T)
    (hp : ∀ (z' : sm_Z) (own : Nat → Nat) (ft q : Nat), sm_cor T ex z' H (sm_fn N t 0) R M P own ft q → sm_qs z' q → sm_sqf z z' t → sm_qm z z' → post (sm_tp (sm_up z' 36 t 0))) : wpX_stopThread post (sm_tp z) (nI t) := by
  have hT := c.1
  refine sm_w_sq (kp := 0) c ht (by omega) (fun z' own ft q h1 h2 h3 h4 => ?_)
  refine ⟨vp_in_nI (by omega) (by decide), ?_⟩
  rw [nI_clamp (show t < 2 ^ 31 by omega)]
  exact nm_e (hp z' own ft q h1 h2 h3 h4)
end
section
/-! control: the chain of pcs, the fetcher, what is still to come; and how far a thread is -/
def sm_nx (z : sm_Z) (s : Nat) : Int32 := if z 18 s = 2 then z 28 s else z 29 s
def sm_pcs (z : sm_Z) (t h n : Nat) : Prop :=
  (0 < n → z 17 (sm_sl h t 0) = z 7 t) ∧ ∀ k, k + 1 < n → ¬ sm_isb z (sm_sl h t k) ∧ z 17 (sm_sl h t (k + 1)) = sm_nx z (sm_sl h t k)
def sm_ftc (z : sm_Z) (t h n : Nat) : Prop :=
  z 36 t ≠ 0 → ((z 33 t = 0 ∧ (n = 0 → z 32 t = z 7 t) ∧ (∀ k, n = k + 1 → ¬ sm_isb z (sm_sl h t k) ∧ z 32 t = sm_nx z (sm_sl h t k))) ∨
    (z 33 t ≠ 0 ∧ ∃ k, n = k + 1 ∧ sm_isb z (sm_sl h t k)))
def sm_fnl (z : sm_Z) (t n : Nat) (R0 M0 : Nat → Int32) (F : sm_A) : Prop :=
  (z 36 t = 0 ∧ n = 0 ∧ (R0, M0, z 7 t, z 6 t, z 8 t, z 9 t) = F) ∨
  (z 36 t = 1 ∧ z 6 t = 0 ∧ ∃ q, q ≤ 40 ∧ z 37 t = nI q ∧ sm_it (sm_sq (z 1) (z 2) (z 3) (z 4 t) t) q (R0, M0, z 7 t, z 6 t, z 8 t, z 9 t) = F)
def sm_ctl (z : sm_Z) (t h n : Nat) (R0 M0 : Nat → Int32) (F : sm_A) : Prop := sm_pcs z t h n ∧ sm_ftc z t h n ∧ sm_fnl z t n R0 M0 F
theorem sm_ctl_fr {z z' : sm_Z} {t h n : Nat} {R0 M0 : Nat → Int32} {F : sm_A} (f : ∀ j, 1 ≤ j → j ≤ 4 → z' j = z j)
    (g : ∀ j, 6 ≤ j → j ≤ 37 → (j ≤ 9 ∨ j = 32 ∨ j = 33 ∨ 36 ≤ j) → z' j t = z j t)
    (e : ∀ j k, k < n → (j = 17 ∨ j = 18 ∨ j = 20 ∨ j = 28 ∨ j = 29) → z' j (sm_sl h t k) = z j (sm_sl h t k)) (c : sm_ctl z t h n R0 M0 F) : sm_ctl z' t h n R0 M0 F := by
  obtain ⟨⟨p1, p2⟩, p3, p4⟩ := c
  have nx : ∀ k, k < n → sm_nx z' (sm_sl h t k) = sm_nx z (sm_sl h t k) := fun k hk => by
    unfold sm_nx
    rw [e 18 k hk (by omega), e 28 k hk (by omega), e 29 k hk (by omega)]
  have ib : ∀ k, k < n → (sm_isb z' (sm_sl h t k) ↔ sm_isb z (sm_sl h t k)) := fun k hk => by
    unfold sm_isb
    rw [e 20 k hk (by omega)]
  refine ⟨⟨fun h0 => ?_, fun k hk => ?_⟩, ?_, ?_⟩
  · rw [e 17 0 h0 (by omega), g 7 (by omega) (by omega) (by omega)]
    exact p1 h0
  · rw [ib k (by omega), e 17 (k + 1) hk (by omega), nx k (by omega)]
    exact p2 k hk
  · unfold sm_ftc
    rw [g 36 (by omega) (by omega) (by omega), g 33 (by omega) (by omega) (by omega), g 32 (by omega) (by omega) (by omega), g 7 (by omega) (by omega) (by omega)]
    intro ha
    rcases p3 ha with ⟨a1, a2, a3⟩ | ⟨a1, k, a2, a3⟩
    · refine Or.inl ⟨a1, a2, fun k hk => ?_⟩
      rw [ib k (by omega), nx k (by omega)]
      exact a3 k hk
    · refine Or.inr ⟨a1, k, a2, ?_⟩
      rw [ib k (by omega)]
      exact a3
  · unfold sm_fnl
    rw [g 36 (by omega) (by omega) (by omega), g 37 (by omega) (by omega) (by omega), g 6 (by omega) (by omega) (by omega), g 7 (by omega) (by omega) (by omega), g 8 (by omega) (by omega) (by omega), g 9 (by omega) (by omega) (by omega), f 1 (by omega) (by omega), f 2 (by omega) (by omega), f 3 (by omega) (by omega), f 4 (by omega) (by omega)]
    exact p4
/-- thread t is at most m steps of the clock from its end -/
def sm_rk (e2 e1 e0 ee : Nat) (z : sm_Z) (t h n m : Nat) : Prop :=
  z 36 t = 0 ∨ ∃ q, z 37 t = nI q ∧ q ≤ 40 ∧ ((n = 0 ∧ 23 * q + ee ≤ m) ∨ (0 < n ∧
    ((z 18 (sm_sl h t 0) = 2 ∧ 23 * q + e2 ≤ m) ∨ (z 18 (sm_sl h t 0) = 1 ∧ ∃ τ, z 19 (sm_sl h t 0) = nI τ ∧ 1 ≤ τ ∧ τ ≤ 4 ∧ 23 * q + e1 + τ ≤ m) ∨
     (z 18 (sm_sl h t 0) = 0 ∧ ∃ i, sm_pos z (sm_sl h t 0) i ∧ 23 * q + e0 + i ≤ m))))
theorem sm_rk_fr2 {e2 e1 e0 ee : Nat} {z z' : sm_Z} {t h n n' m : Nat} (hn : 0 < n ↔ 0 < n') (hs : sm_sl h t 0 < 48) (f36 : z' 36 t = z 36 t) (f37 : z' 37 t = z 37 t) (f18 : 0 < n → z' 18 (sm_sl h t 0) = z 18 (sm_sl h t 0)) (f19 : 0 < n → z' 19 (sm_sl h t 0) = z 19 (sm_sl h t 0))
    (l : 0 < n → z' 30 (sm_sl h t 0) ≠ 0) (qm : sm_qm z z') (c : sm_rk e2 e1 e0 ee z t h n m) : sm_rk e2 e1 e0 ee z' t h n' m := by
  unfold sm_rk at *
  rw [f36, f37]
  rcases c with c | ⟨q, c1, c2, ⟨c3, c4⟩ | ⟨c3, c4⟩⟩
  · exact Or.inl c
  · exact Or.inr ⟨q, c1, c2, Or.inl ⟨by omega, c4⟩⟩
  · rw [f18 c3, f19 c3]
    refine Or.inr ⟨q, c1, c2, Or.inr ⟨by omega, ?_⟩⟩
    rcases c4 with c4 | c4 | ⟨c4, i, c5, c6⟩
    · exact Or.inl c4
    · exact Or.inr (Or.inl c4)
    · obtain ⟨j, hj, hp⟩ := qm _ i hs c5 (l c3) (by rw [f18 c3]; exact c4)
      exact Or.inr (Or.inr ⟨c4, j, hp, by omega⟩)
theorem sm_rk_fr {e2 e1 e0 ee : Nat} {z z' : sm_Z} {t h n m : Nat} (hs : sm_sl h t 0 < 48) (f36 : z' 36 t = z 36 t) (f37 : z' 37 t = z 37 t) (f18 : 0 < n → z' 18 (sm_sl h t 0) = z 18 (sm_sl h t 0)) (f19 : 0 < n → z' 19 (sm_sl h t 0) = z 19 (sm_sl h t 0))
    (l : 0 < n → z' 30 (sm_sl h t 0) ≠ 0) (qm : sm_qm z z') (c : sm_rk e2 e1 e0 ee z t h n m) : sm_rk e2 e1 e0 ee z' t h n m := sm_rk_fr2 Iff.rfl hs f36 f37 f18 f19 l qm c
theorem sm_rk_wk {e2 e1 e0 ee d2 d1 d0 de : Nat} {z : sm_Z} {t h n m m' : Nat} (h2 : d2 + m ≤ e2 + m') (h1 : d1 + m ≤ e1 + m') (h0 : d0 + m ≤ e0 + m') (he : de + m ≤ ee + m') (c : sm_rk e2 e1 e0 ee z t h n m) : sm_rk d2 d1 d0 de z t h n m' := by
  unfold sm_rk at *
  rcases c with c | ⟨q, c1, c2, ⟨c3, c4⟩ | ⟨c3, ⟨c4, c5⟩ | ⟨c4, τ, c5, c6, c7, c8⟩ | ⟨c4, i, c5, c6⟩⟩⟩
  · exact Or.inl c
  · exact Or.inr ⟨q, c1, c2, Or.inl ⟨c3, by omega⟩⟩
  · exact Or.inr ⟨q, c1, c2, Or.inr ⟨c3, Or.inl ⟨c4, by omega⟩⟩⟩
  · exact Or.inr ⟨q, c1, c2, Or.inr ⟨c3, Or.inr (Or.inl ⟨c4, τ, c5, c6, c7, by omega⟩)⟩⟩
  · exact Or.inr ⟨q, c1, c2, Or.inr ⟨c3, Or.inr (Or.inr ⟨c4, i, c5, by omega⟩)⟩⟩
/-- the states an entry may be in -/
theorem sm_ent_st {z : sm_Z} {t s : Nat} {R M P R' M' P' : Nat → Int32} (h : sm_ent z t s R M P R' M' P') :
    z 18 s = 0 ∨ (z 18 s = 1 ∧ ∃ τ, 1 ≤ τ ∧ τ ≤ 4 ∧ z 19 s = nI τ) ∨ z 18 s = 2 := by
  obtain ⟨h30, hb | ⟨p, o, g, m, h17, hp, hsz, ho, hg, hm, ho0, hA, hB, hw, hn, hR, hM, hs⟩⟩ := h
  · exact Or.inr (Or.inr hb.1.1)
  · rcases hs with ⟨x1, x2, x3⟩ | ⟨x1, x2, x3, x4⟩ | ⟨x1, x2, x3⟩
    · exact Or.inl x1
    · exact Or.inr (Or.inl ⟨x1, x4⟩)
    · exact Or.inr (Or.inr x1)
theorem sm_rk_any {e2 e1 e0 ee T ex : Nat} {z : sm_Z} {H N : Nat → Nat} {R M P : Nat → Nat → Nat → Int32} {own : Nat → Nat} {ft q : Nat} (c : sm_cor T ex z H N R M P own ft q) {t m p : Nat} (ht : t < T) (hq : z 37 t = nI p) (hp : p ≤ 40)
    (h2 : 23 * p + e2 ≤ m) (h1 : 23 * p + e1 + 4 ≤ m) (h0 : 23 * p + e0 + 15 ≤ m) (he : 23 * p + ee ≤ m) : sm_rk e2 e1 e0 ee z t (H t) (N t) m := by
  obtain ⟨hT, hex, hth, hrg, hft, hcn, hlv, hqq, q1, q2, q3, q4⟩ := c
  obtain ⟨c1, c2, c3, c4, c5, c6, c7, c8, c9⟩ := hth t ht
  refine Or.inr ⟨p, hq, hp, ?_⟩
  by_cases e : N t = 0
  · exact Or.inl ⟨e, he⟩
  · refine Or.inr ⟨by omega, ?_⟩
    rcases sm_ent_st (c9 0 (by omega)) with a | ⟨a, τ, t1, t2, t3⟩ | a
    · obtain ⟨i, hi, ei⟩ := q4 t 0 ht (by omega) a
      exact Or.inr (Or.inr ⟨a, i, ⟨q, hqq, hi, q1, ei⟩, by omega⟩)
    · exact Or.inr (Or.inl ⟨a, τ, t3, t1, t2, by omega⟩)
    · exact Or.inl ⟨a, h2⟩
def sm_prm (T W V : Nat) (z : sm_Z) : Prop :=
  z 0 0 = nI T ∧ 1 ≤ T ∧ T ≤ 4 ∧ z 0 1 = nI W ∧ 1 ≤ W ∧ W ≤ 4 ∧ z 0 2 = nI V ∧ 2 ≤ V ∧ V ≤ 12 ∧ ∀ t, t < T → ∃ m, m ≤ 24 ∧ z 4 t = nI m
def sm_J (T W V ex : Nat) (F : Nat → sm_A) (z : sm_Z) (H N : Nat → Nat) (R M P : Nat → Nat → Nat → Int32) (own : Nat → Nat) (ft q : Nat) : Prop :=
  sm_prm T W V z ∧ sm_cor T ex z H N R M P own ft q ∧ sm_qs z q ∧ ∀ t, t < T → sm_ctl z t (H t) (N t) (R t 0) (M t 0) (F t)
theorem sm_prm_fr {T W V : Nat} {z z' : sm_Z} (f : ∀ i, i < 3 → z' 0 i = z 0 i) (f4 : z' 4 = z 4) (h : sm_prm T W V z) : sm_prm T W V z' := by
  unfold sm_prm at *
  rw [f 0 (by omega), f 1 (by omega), f 2 (by omega), f4]
  exact h
/-- a step in rows that the core doesn't read -/
theorem sm_k_ms {T ex : Nat} {z z' : sm_Z} {H N : Nat → Nat} {R M P : Nat → Nat → Nat → Int32} {own : Nat → Nat} {ft q : Nat} (c : sm_cor T ex z H N R M P own ft q)
    (f : ∀ j x, ¬ (6 ≤ j ∧ j ≤ 9) → ¬ 32 ≤ j → ¬ (j = 0 ∧ x = 5) → z' j x = z j x) : sm_cor T ex z' H N R M P own ft q := by
  obtain ⟨hT, hex, hth, hrg, hft, hcn, hlv, hq, hqw⟩ := c
  have row : ∀ j, 10 ≤ j → j ≤ 31 → z' j = z j := fun j h1 h2 => funext fun x => f j x (by omega) (by omega) (by omega)
  refine ⟨hT, hex, fun t ht => sm_thr_id (fun j i h1 h2 h3 => f j i (by omega) (by omega) (by omega)) (hth t ht), ?_, ?_, ?_, ?_, ?_, ?_⟩
  · rw [row 11 (by omega) (by omega), row 12 (by omega) (by omega), row 13 (by omega) (by omega), row 21 (by omega) (by omega), row 22 (by omega) (by omega), row 30 (by omega) (by omega)]
    exact hrg
  · rw [f 0 3 (by omega) (by omega) (by omega)]
    exact hft
  · rw [row 21 (by omega) (by omega), row 30 (by omega) (by omega)]
    exact hcn
  · rw [row 30 (by omega) (by omega)]
    exact hlv
  · rw [f 0 4 (by omega) (by omega) (by omega)]
    exact hq
  · rw [row 18 (by omega) (by omega), row 31 (by omega) (by omega)]
    exact hqw
theorem sm_qs_fr {z z' : sm_Z} {q : Nat} (f : ∀ j x, (j = 18 ∨ j = 30 ∨ j = 31) → z' j x = z j x) (h : sm_qs z q) : sm_qs z' q := by
  intro i hi
  unfold sm_kp
  rw [f 31 i (by omega), f 30 _ (by omega), f 18 _ (by omega)]
  exact h i hi
theorem sm_qm_id {z z' : sm_Z} (f : z' 0 4 = z 0 4) (g : z' 31 = z 31) : sm_qm z z' := by
  intro s i hs ⟨q, a, b, c, d⟩ _ _
  exact ⟨i, Nat.le_refl i, q, by rw [f]; exact a, b, c, by rw [g]; exact d⟩
theorem sm_qm_t {z z' z'' : sm_Z} (a : sm_qm z z') (b : sm_qm z' z'') (l : ∀ s, s < 48 → z'' 30 s ≠ 0 → z'' 18 s = 0 → z' 30 s ≠ 0 ∧ z' 18 s = 0) : sm_qm z z'' := by
  intro s i hs hp h30 h18
  obtain ⟨l1, l2⟩ := l s hs h30 h18
  obtain ⟨j, j1, j2⟩ := a s i hs hp l1 l2
  obtain ⟨k, k1, k2⟩ := b s j hs j2 h30 h18
  exact ⟨k, by omega, k2⟩
end
section
/-! the oldest entry retires -/
def sm_sh (R : Nat → Nat → Nat → Int32) (t : Nat) : Nat → Nat → Nat → Int32 := fun t' k => if t' = t then R t (k + 1) else R t' k
theorem sm_sh_y (R : Nat → Nat → Nat → Int32) (t k : Nat) : sm_sh R t t k = R t (k + 1) := if_pos rfl
theorem sm_sh_n (R : Nat → Nat → Nat → Int32) {t t' : Nat} (k : Nat) (h : t' ≠ t) : sm_sh R t t' k = R t' k := if_neg h
theorem sm_hs_lt {h : Nat} (hh : h < 12) : sm_hs h < 12 := by
  unfold sm_hs
  split <;> omega
theorem sm_k_ret {T ex : Nat} {z z' : sm_Z} {H N : Nat → Nat} {R M P : Nat → Nat → Nat → Int32} {own own' : Nat → Nat} {ft ft' q : Nat} (c : sm_cor T ex z H N R M P own ft q)
    {t n s p : Nat} (ht : t < T) (hn : N t = n + 1) (hs : s = sm_sl (H t) t 0) (F : sm_fp z z' t s p) (P0 : sm_p0 z T t s p)
    (f14 : z' 14 = z 14) (f : ∀ j i, 17 ≤ j → j ≤ 31 → ¬ (j = 30 ∧ i = s) → z' j i = z j i) (h04 : z' 0 4 = z 0 4)
    (h10 : ∀ r, r < 8 → z' 10 (z' 13 (t * 8 + r)).toNatClampNeg = R t 1 r)
    (hR8 : ∀ r, R t 1 r = R t 1 (r % 8)) (hP8 : ∀ r, P t 1 r = P t 1 (r % 8)) (hM16 : ∀ r, M t 1 r = M t 1 (r % 16))
    (hM : ∀ a, a < 16 → z' 5 (t * 16 + a) = M t 1 a) (hP : ∀ r, r < 8 → z' 13 (t * 8 + r) = P t 1 r)
    (h15 : z' 15 t = nI (sm_hs (H t))) (h16 : z' 16 t = nI n) (h30 : z' 30 s = 0)
    (hrg : sm_rgs T ft' own' (z' 11) (z' 12) (z' 13) (z' 21) (z' 22) (z' 30)) (h03 : z' 0 3 = nI ft') (hcn : ft' + sm_cnt (z' 21) (z' 30) 48 = ex) :
    sm_cor T ex z' (sm_fn H t (sm_hs (H t))) (sm_fn N t n) (sm_sh R t) (sm_sh M t) (sm_sh P t) own' ft' q := by
  obtain ⟨hT, hex, hth, hrg0, hft0, hcn0, hlv, hq, q1, q2, q3, q4⟩ := c
  obtain ⟨c1, c2, c3, c4, c5, c6, c7, c8, c9⟩ := hth t ht
  have m8 : ∀ r : Nat, r % 8 < 8 := fun r => Nat.mod_lt r (by decide)
  have hs12 := sm_sl_rng (t := t) c2 (show 0 < 12 by omega)
  rw [← hs] at hs12
  have r30 : ∀ i, i ≠ s → z' 30 i = z 30 i := fun i hi => f 30 i (by omega) (by omega) (by omega)
  have r31 : z' 31 = z 31 := funext fun i => f 31 i (by omega) (by omega) (by omega)
  refine ⟨hT, hex, fun t' ht' => ?_, hrg, h03, hcn, ?_, ?_, q1, ?_, ?_, ?_⟩
  · by_cases e : t' = t
    · subst e
      rw [sm_fn_y, sm_fn_y]
      refine ⟨h15, sm_hs_lt c2, h16, by omega, ?_, ?_, ?_, ?_, fun j hj => ?_⟩
      · rw [sm_sh_y]
        funext r
        rw [hR8 r]
        exact (h10 _ (m8 r)).symm
      · rw [sm_sh_y]
        funext r
        rw [hM16 r]
        exact (hM _ (Nat.mod_lt r (by decide))).symm
      · rw [sm_sh_y]
        funext r
        rw [hP8 r]
        exact (hP _ (m8 r)).symm
      · rw [sm_sh_y, ← hn, c8, f14]
      · rw [sm_sh_y, sm_sh_y, sm_sh_y, sm_sh_y, sm_sh_y, sm_sh_y, sm_sl_hs c2 (by omega)]
        have hj' := sm_sl_rng (t := t') c2 (show j + 1 < 12 by omega)
        refine sm_ent_fr (sm_fp_ags F P0 (by omega) (fun e => ?_) (c9 (j + 1) (by omega)).1) (c9 (j + 1) (by omega))
        rw [hs] at e
        have := sm_sl_inj c2 (by omega) (by omega) e
        omega
    · rw [sm_fn_n N e, sm_fn_n H e]
      have e1 : sm_sh R t t' = R t' := funext fun k => sm_sh_n R k e
      have e2 : sm_sh M t t' = M t' := funext fun k => sm_sh_n M k e
      have e3 : sm_sh P t t' = P t' := funext fun k => sm_sh_n P k e
      rw [e1, e2, e3]
      exact sm_fp_oth hT F P0 (by omega) ht' e (hth t' ht')
  · intro s' hs' hl
    by_cases e : s' = s
    · subst e
      exact absurd h30 hl
    · rw [r30 s' e] at hl
      obtain ⟨t', k', h1, h2, h3⟩ := hlv s' hs' hl
      by_cases e' : t' = t
      · subst e'
        cases k' with
        | zero => exact absurd (by rw [h3, hs]) e
        | succ k' =>
          refine ⟨t', k', h1, ?_, ?_⟩
          · rw [sm_fn_y]
            omega
          · rw [sm_fn_y, sm_sl_hs c2 (by omega)]
            exact h3
      · refine ⟨t', k', h1, ?_, ?_⟩
        · rw [sm_fn_n N e']
          exact h2
        · rw [sm_fn_n H e']
          exact h3
  · rw [h04]
    exact hq
  · rw [r31]
    exact q2
  · rw [r31]
    exact q3
  · rw [r31]
    intro t' k' ht' hk' h18
    rw [f 18 _ (by omega) (by omega) (by omega)] at h18
    by_cases e : t' = t
    · subst e
      rw [sm_fn_y] at hk'
      rw [sm_fn_y, sm_sl_hs c2 (by omega)] at *
      exact q4 t' (k' + 1) ht' (by omega) h18
    · rw [sm_fn_n N e] at hk'
      rw [sm_fn_n H e] at *
      exact q4 t' k' ht' hk' h18
/-- the chain's registers and memory are read modulo their number -/
theorem sm_chn8 {T ex : Nat} {z : sm_Z} {H N : Nat → Nat} {R M P : Nat → Nat → Nat → Int32} {own : Nat → Nat} {ft q : Nat} (c : sm_cor T ex z H N R M P own ft q) {t : Nat} (ht : t < T) :
    ∀ k, k ≤ N t → (∀ r, R t k r = R t k (r % 8)) ∧ ∀ a, M t k a = M t k (a % 16) := by
  obtain ⟨hT, hex, hth, hrg, hft, hcn, hlv, hq, hqw⟩ := c
  obtain ⟨c1, c2, c3, c4, c5, c6, c7, c8, c9⟩ := hth t ht
  intro k
  induction k with
  | zero =>
    intro _
    rw [c5, c6]
    try dsimp only
    exact ⟨fun r => by rw [Nat.mod_mod], fun a => by rw [Nat.mod_mod]⟩
  | succ k ih =>
    intro hk
    obtain ⟨i1, i2⟩ := ih (by omega)
    obtain ⟨h30, hb | ⟨p, o, g, m, h17, hp, hsz, ho, hg, hm, ho0, hA, hB, hw, hn, hR, hM, hs⟩⟩ := c9 k (by omega)
    · rw [hb.2.1, hb.2.2.1]
      exact ⟨i1, i2⟩
    · rw [hR, hM]
      constructor
      · intro r
        unfold sm_R1
        by_cases w : sm_wr o
        · rw [if_pos w]
          unfold sm_u8
          try dsimp only
          rw [Nat.mod_mod, ← i1 r]
        · rw [if_neg w]
          exact i1 r
      · intro a
        unfold sm_M1
        by_cases w : o = 11 ∧ sm_xs o (R t k (sm_ra g)) (R t k (sm_rb g)) m = 0
        · rw [if_pos w]
          unfold sm_u16
          try dsimp only
          rw [Nat.mod_mod, ← i2 a]
        · rw [if_neg w]
          exact i2 a
/-- what a retirement changes -/
def sm_rtd (z z' : sm_Z) (t s h n q : Nat) (v : Int32) : Prop :=
  (∀ j i, ¬ (j = 9 ∧ i = t) → ¬ (j = 7 ∧ i = t) → ¬ (j = 8 ∧ i = t) → ¬ (j = 30 ∧ i = s) → ¬ (j = 15 ∧ i = t) → ¬ (j = 16 ∧ i = t) → ¬ (j = 37 ∧ i = t) → ¬ (j = 0 ∧ i = 5) → z' j i = z j i) ∧
  z' 9 t = z 9 t * 31 + 7 * z 17 s + v ∧ z' 7 t = z 28 s ∧ z' 8 t = z 8 t + 1 ∧ z' 30 s = 0 ∧ z' 15 t = nI (sm_hs h) ∧ z' 16 t = nI n ∧ z' 37 t = nI q
/-- the retirement, whatever it does to registers and memory, keeps the invariant -/
theorem sm_J_ret {T W V ex : Nat} {F : Nat → sm_A} {z w z' : sm_Z} {H N : Nat → Nat} {R M P : Nat → Nat → Nat → Int32} {own : Nat → Nat} {ft q : Nat} (j : sm_J T W V ex F z H N R M P own ft q)
    {t n s qt : Nat} {v : Int32} (ht : t < T) (hn : N t = n + 1) (hs : s = sm_sl (H t) t 0) (hact : z 36 t ≠ 0) (hq37 : z 37 t = nI (qt + 1)) (hqt : qt < 40) (hst : z 18 s = 2) (hsp : z 20 s = 0)
    {p d : Nat} {o g m : Int32} (h17 : z 17 s = nI p) (hp24 : p < 24) (ho : z 1 (t * 24 + p) = o) (hg : z 2 (t * 24 + p) = g) (hm : z 3 (t * 24 + p) = m)
    (hw : (sm_wr o ∧ d = sm_rd g ∧ v = z 26 s ∧ (∀ j i, ¬ (j = 13 ∧ i = t * 8 + d) → ¬ (j = 11 ∧ i = (z 23 s).toNatClampNeg) → ¬ (j = 12 ∧ i = ft) → ¬ (j = 0 ∧ i = 3) → w j i = z j i) ∧ w 13 (t * 8 + d) = z 22 s ∧ w 11 (z 23 s).toNatClampNeg = 1 ∧ w 12 ft = z 23 s ∧ w 0 3 = nI (ft + 1)) ∨
      (¬ sm_wr o ∧ o = 11 ∧ v = 5 * z 27 s + z 26 s ∧ (∀ j i, ¬ (j = 5 ∧ i = t * 16 + (z 27 s).toNatClampNeg) → w j i = z j i) ∧ w 5 (t * 16 + (z 27 s).toNatClampNeg) = z 26 s) ∨
      (¬ sm_wr o ∧ o ≠ 11 ∧ v = z 28 s ∧ w = z))
    (hd : sm_rtd w z' t s (H t) n qt v) :
    ∃ own' ft', sm_J T W V ex F z' (sm_fn H t (sm_hs (H t))) (sm_fn N t n) (sm_sh R t) (sm_sh M t) (sm_sh P t) own' ft' q := by
  have hj := j
  obtain ⟨hprm, c, hqs, hctl⟩ := j
  have cc := c
  obtain ⟨hT, hex, hth, hrg, hft, hcn, hlv, hqq, q1, q2, q3, q4⟩ := cc
  obtain ⟨c1, c2, c3, c4, c5, c6, c7, c8, c9⟩ := hth t ht
  obtain ⟨⟨pc1, pc2⟩, hfc, hfn⟩ := hctl t ht
  have hs12 := sm_sl_rng (t := t) c2 (show 0 < 12 by omega)
  rw [← hs] at hs12
  have ce := c9 0 (by omega)
  rw [← hs] at ce
  have ce0 := ce
  obtain ⟨h30, hb | ⟨p', o', g', m', h17', hp', hsz, ho', hg', hm', ho0, hA, hB, hw1, hw2, hR, hM, hsta⟩⟩ := ce
  · obtain ⟨_, _, hb⟩ := hb.1
    rcases hb with hb | hb <;> (rw [hsp] at hb; exact absurd hb.1 (by decide))
  have epp : p' = p := sm_nI_inj (by omega) (by omega) (by rw [← h17', h17])
  subst epp
  rw [ho] at ho'; rw [hg] at hg'; rw [hm] at hm'
  subst ho' hg' hm'
  have hres : sm_res z s o g m (nI p') (R t 0) (M t 0) ∧ (sm_wr o → z 11 (z 22 s).toNatClampNeg = 1 ∧ z 10 (z 22 s).toNatClampNeg = z 26 s) := by
    rcases hsta with ⟨x1, _⟩ | ⟨x1, _⟩ | ⟨_, x2, x3⟩
    · rw [hst] at x1; exact absurd x1 (by decide)
    · rw [hst] at x1; exact absurd x1 (by decide)
    · exact ⟨x2, x3⟩
  obtain ⟨⟨rs1, rs2, rs3, rs4⟩, hrdy⟩ := hres
  have hxs : sm_xs o (R t 0 (sm_ra g)) (R t 0 (sm_rb g)) m = 0 := by rw [← rs1]; exact hsp
  obtain ⟨hfr, d9, d7, d8, d30, d15, d16, d37⟩ := hd
  have hk8 := sm_map8 c ht 1 (by omega)
  have hch := sm_chn8 c ht 1 (by omega)
  have hrd := sm_rd_lt g
  -- rows that nothing touches
  have W1 : ∀ jj i, jj ≠ 0 → jj ≠ 5 → jj ≠ 11 → jj ≠ 12 → jj ≠ 13 → w jj i = z jj i := by
    rcases hw with ⟨_, _, _, wf, _⟩ | ⟨_, _, _, wf, _⟩ | ⟨_, _, _, wf⟩
    · intro jj i h0 h1 h2 h3 h4
      exact wf jj i (by omega) (by omega) (by omega) (by omega)
    · intro jj i h0 h1 h2 h3 h4
      exact wf jj i (by omega)
    · intro jj i _ _ _ _ _
      rw [wf]
  have W0 : ∀ i, i ≠ 3 → w 0 i = z 0 i := by
    rcases hw with ⟨_, _, _, wf, _⟩ | ⟨_, _, _, wf, _⟩ | ⟨_, _, _, wf⟩
    · intro i h
      exact wf 0 i (by omega) (by omega) (by omega) (by omega)
    · intro i h
      exact wf 0 i (by omega)
    · intro i _
      rw [wf]
  rw [W1 28 s (by omega) (by omega) (by omega) (by omega) (by omega)] at d7
  rw [W1 8 t (by omega) (by omega) (by omega) (by omega) (by omega)] at d8
  rw [W1 9 t (by omega) (by omega) (by omega) (by omega) (by omega), W1 17 s (by omega) (by omega) (by omega) (by omega) (by omega)] at d9
  have hv : v = (if sm_wr o then sm_xv o (R t 0 (sm_ra g)) (R t 0 (sm_rb g)) m (nI p') (M t 0) else if o = 11 then 5 * (R t 0 (sm_ra g) + m) + sm_xv o (R t 0 (sm_ra g)) (R t 0 (sm_rb g)) m (nI p') (M t 0) else sm_xn o (R t 0 (sm_ra g)) (R t 0 (sm_rb g)) m (nI p')) := by
    rcases hw with ⟨wr, ed, ev, wf, w13, w11, w12, w03⟩ | ⟨wr, e11, ev, wf, w5⟩ | ⟨wr, e11, ev, ew⟩
    · rw [if_pos wr, ev]
      exact rs3 (Or.inl wr)
    · rw [if_neg wr, if_pos e11, ev, rs4 e11, rs3 (Or.inr e11)]
    · rw [if_neg wr, if_neg e11, ev, rs2]
  have fz : ∀ jj i, jj ≠ 0 → jj ≠ 5 → jj ≠ 11 → jj ≠ 12 → jj ≠ 13 → ¬ (7 ≤ jj ∧ jj ≤ 9) → ¬ (jj = 30 ∧ i = s) → ¬ ((jj = 15 ∨ jj = 16 ∨ jj = 37) ∧ i = t) → z' jj i = z jj i := fun jj i h0 h1 h2 h3 h4 h5 h6 h7 => by
    rw [hfr jj i (by omega) (by omega) (by omega) (by omega) (by omega) (by omega) (by omega) (by omega), W1 jj i h0 h1 h2 h3 h4]
  have r21 : z' 21 = z 21 := funext fun i => fz 21 i (by omega) (by omega) (by omega) (by omega) (by omega) (by omega) (by omega) (by omega)
  have r22 : z' 22 = z 22 := funext fun i => fz 22 i (by omega) (by omega) (by omega) (by omega) (by omega) (by omega) (by omega) (by omega)
  have r10 : z' 10 = z 10 := funext fun i => fz 10 i (by omega) (by omega) (by omega) (by omega) (by omega) (by omega) (by omega) (by omega)
  have r14 : z' 14 = z 14 := funext fun i => fz 14 i (by omega) (by omega) (by omega) (by omega) (by omega) (by omega) (by omega) (by omega)
  have r30 : ∀ i, i ≠ s → z' 30 i = z 30 i := fun i hi => fz 30 i (by omega) (by omega) (by omega) (by omega) (by omega) (by omega) (by omega) (by omega)
  have r11 : z' 11 = w 11 := funext fun i => hfr 11 i (by omega) (by omega) (by omega) (by omega) (by omega) (by omega) (by omega) (by omega)
  have r12 : z' 12 = w 12 := funext fun i => hfr 12 i (by omega) (by omega) (by omega) (by omega) (by omega) (by omega) (by omega) (by omega)
  have r13 : z' 13 = w 13 := funext fun i => hfr 13 i (by omega) (by omega) (by omega) (by omega) (by omega) (by omega) (by omega) (by omega)
  have r5 : z' 5 = w 5 := funext fun i => hfr 5 i (by omega) (by omega) (by omega) (by omega) (by omega) (by omega) (by omega) (by omega)
  have r03 : z' 0 3 = w 0 3 := hfr 0 3 (by omega) (by omega) (by omega) (by omega) (by omega) (by omega) (by omega) (by omega)
  have r04 : z' 0 4 = z 0 4 := by rw [hfr 0 4 (by omega) (by omega) (by omega) (by omega) (by omega) (by omega) (by omega) (by omega), W0 4 (by omega)]
  have rob : ∀ j i, 17 ≤ j → j ≤ 31 → ¬ (j = 30 ∧ i = s) → z' j i = z j i := fun j i h1 h2 h3 => fz j i (by omega) (by omega) (by omega) (by omega) (by omega) (by omega) (by omega) (by omega)
  have hcz := sm_cnt_one (a := z' 21) (b := z' 30) (c := z 21) (d := z 30) (s := s) 48 (by omega) (fun i _ hi => by
      unfold sm_wt
      rw [r21, r30 i hi])
  have w2 : sm_wt (z' 21) (z' 30) s = 0 := by
    unfold sm_wt
    rw [if_pos (Or.inl d30)]
  have v0 : z 7 t = z 17 s := by rw [hs, pc1 (by omega)]
  -- the core
  have core : ∃ own' ft', sm_cor T ex z' (sm_fn H t (sm_hs (H t))) (sm_fn N t n) (sm_sh R t) (sm_sh M t) (sm_sh P t) own' ft' q := by
    rcases hw with ⟨wr, ed, ev, wf, w13, w11, w12, w03⟩ | ⟨wr, e11, ev, wf, w5⟩ | ⟨wr, e11, ev, ew⟩
    · obtain ⟨e21, e23, eP⟩ := hw1 wr
      subst ed
      have n21 : ¬ z 21 s < 0 := by rw [e21]; exact nI_pos (by omega)
      obtain ⟨hni, hno⟩ := hrg.2.2 s (by omega) (by rw [h30]; decide) n21
      have e23' : z 23 s = z 13 (t * 8 + sm_rd g) := by
        rw [e23, c7]
        try dsimp only
        rw [Nat.mod_eq_of_lt hrd]
      obtain ⟨hoi, hoo, hor⟩ := hrg.2.1 t (sm_rd g) ht hrd
      rw [← e23'] at hoi hoo hor
      have hpo56 := sm_cl_lt hoi
      have w1 : sm_wt (z 21) (z 30) s = 1 := by
        unfold sm_wt
        rw [if_neg (fun h => ?_)]
        rcases h with h | h
        · rw [h30] at h
          exact absurd h (by decide)
        · exact n21 h
      have hne : (z 22 s).toNatClampNeg ≠ (z 23 s).toNatClampNeg := fun e => by
        rw [e, hoo] at hno
        omega
      generalize hpo : (z 23 s).toNatClampNeg = po at *
      generalize hpn : (z 22 s).toNatClampNeg = pn at *
      have wr13 : ∀ t' r, r < 8 → ¬ (t' = t ∧ r = sm_rd g) → w 13 (t' * 8 + r) = z 13 (t' * 8 + r) := fun t' r hr hn => wf 13 _ (by omega) (by omega) (by omega) (by omega)
      refine ⟨fun x => if x = pn then 100 + (t * 8 + sm_rd g) else if x = po then ft else own x, ft + 1, ?_⟩
      refine sm_k_ret c ht hn hs (p := po) (fun j i h1 h2 h3 h4 h5 h6 h7 h8 h9 => ?_) (sm_p0_own hrg (fun t' r a1 a2 a3 => by omega) (fun s' a1 a2 => by omega)) r14 rob r04 (fun r hr => ?_) hch.1 hk8 hch.2 (fun a ha => ?_) (fun r hr => ?_) d15 d16 d30 ⟨fun i hi => ?_, fun t' r ht' hr => ?_, fun s' hs' hl hd' => ?_⟩ ?_ ?_
      · rw [hfr j i (by omega) (by omega) (by omega) (by omega) (by omega) (by omega) (by omega) (by omega), wf j i (by omega) (by omega) (by omega) (by omega)]
      · rw [r10, r13, hR]
        unfold sm_R1 sm_u8
        rw [if_pos wr]
        try dsimp only
        rw [Nat.mod_eq_of_lt hr]
        by_cases e : r = sm_rd g
        · rw [if_pos e, e, w13, hpn, (hrdy wr).2]
          exact rs3 (Or.inl wr)
        · rw [if_neg e, wr13 t r hr (by omega), c5]
          try dsimp only
          rw [Nat.mod_eq_of_lt hr]
      · rw [r5, wf 5 _ (by omega) (by omega) (by omega) (by omega), hM]
        unfold sm_M1
        rw [if_neg (fun h => sm_wr11 h.1 wr), c6]
        try dsimp only
        rw [Nat.mod_eq_of_lt ha]
      · rw [r13, eP]
        unfold sm_u8
        try dsimp only
        rw [Nat.mod_eq_of_lt hr]
        by_cases e : r = sm_rd g
        · rw [if_pos e, e, w13]
        · rw [if_neg e, wr13 t r hr (by omega), c7]
          try dsimp only
          rw [Nat.mod_eq_of_lt hr]
      · rw [r12]
        by_cases e : i = ft
        · subst e
          rw [w12, hpo]
          try dsimp only
          rw [if_neg (fun e : po = pn => hne e.symm), if_pos rfl]
          exact ⟨hoi, rfl⟩
        · rw [wf 12 i (by omega) (by omega) (by omega) (by omega)]
          obtain ⟨a1, a2⟩ := hrg.1 i (by omega)
          refine ⟨a1, ?_⟩
          try dsimp only
          rw [if_neg (fun e => ?_), if_neg (fun e => ?_)]
          · exact a2
          · rw [e] at a2
            omega
          · rw [e] at a2
            omega
      · rw [r13, r11]
        by_cases e : t' = t ∧ r = sm_rd g
        · obtain ⟨e1, e2⟩ := e
          subst e1 e2
          rw [w13, hpn, wf 11 pn (by omega) (by omega) (by omega) (by omega)]
          try dsimp only
          rw [if_pos rfl]
          exact ⟨hni, rfl, (hrdy wr).1⟩
        · rw [wr13 t' r hr e]
          obtain ⟨a1, a2, a3⟩ := hrg.2.1 t' r ht' hr
          have n1 : (z 13 (t' * 8 + r)).toNatClampNeg ≠ pn := fun e => by
            rw [e] at a2
            omega
          have n2 : (z 13 (t' * 8 + r)).toNatClampNeg ≠ po := fun e => by
            rw [e] at a2
            omega
          try dsimp only
          rw [if_neg n1, if_neg n2, wf 11 _ (by omega) (by omega) (by omega) (by omega)]
          exact ⟨a1, a2, a3⟩
      · rw [r22]
        rw [r21] at hd'
        by_cases e : s' = s
        · subst e
          exact absurd d30 hl
        · rw [r30 s' e] at hl
          obtain ⟨a1, a2⟩ := hrg.2.2 s' hs' hl hd'
          refine ⟨a1, ?_⟩
          try dsimp only
          rw [if_neg (fun e => ?_), if_neg (fun e => ?_)]
          · exact a2
          · rw [e] at a2
            omega
          · rw [e] at a2
            omega
      · rw [r03, w03]
      · omega
    · have w21 := (hw2 wr).1
      have wb : sm_wt (z 21) (z 30) s = 0 := by
        unfold sm_wt
        rw [if_pos (Or.inr (sm_n21 w21))]
      have h27 := rs4 e11
      have h26 := rs3 (Or.inr e11)
      have xv : sm_xv o (R t 0 (sm_ra g)) (R t 0 (sm_rb g)) m (nI p') (M t 0) = R t 0 (sm_rb g) ∧ ¬ sm_bad (R t 0 (sm_ra g) + m) := by
        subst e11
        unfold sm_xs at hxs
        unfold sm_xv
        rw [if_pos (by decide), if_neg (by decide)] at hxs
        rw [if_pos (by decide), if_neg (by decide)]
        by_cases bd : sm_bad (R t 0 (sm_ra g) + m)
        · rw [if_pos bd] at hxs
          exact absurd hxs (by decide)
        · rw [if_neg bd, if_pos rfl]
          exact ⟨rfl, bd⟩
      have ha16 : (z 27 s).toNatClampNeg < 16 := by
        rw [h27]
        have bd := xv.2
        obtain ⟨a, ha, ea⟩ := nI_of2 (M := 15) (n := 15) (by decide) (fun h => bd (Or.inl h)) (Classical.byContradiction fun h => bd (Or.inr h))
        rw [ea, nI_clamp (by omega)]
        omega
      rw [h27] at w5 wf ha16
      generalize hae : (R t 0 (sm_ra g) + m).toNatClampNeg = a0 at *
      refine ⟨own, ft, ?_⟩
      refine sm_k_ret c ht hn hs (p := 99) (fun j i h1 h2 h3 h4 h5 h6 h7 h8 h9 => ?_) (sm_p0_none hrg) r14 rob r04 (fun r hr => ?_) hch.1 hk8 hch.2 (fun a ha => ?_) (fun r hr => ?_) d15 d16 d30 ⟨fun i hi => ?_, fun t' r ht' hr => ?_, fun s' hs' hl hd' => ?_⟩ ?_ ?_
      · rw [hfr j i (by omega) (by omega) (by omega) (by omega) (by omega) (by omega) (by omega) (by omega), wf j i (by omega)]
      · rw [r10, r13, hR, wf 13 _ (by omega)]
        unfold sm_R1
        rw [if_neg wr, c5]
        try dsimp only
        rw [Nat.mod_eq_of_lt hr]
      · rw [r5, hM]
        unfold sm_M1
        rw [if_pos ⟨e11, hxs⟩, hae]
        unfold sm_u16
        try dsimp only
        rw [Nat.mod_eq_of_lt ha]
        by_cases e : a = a0
        · rw [if_pos e, e, w5, h26]
          exact xv.1
        · rw [if_neg e, wf 5 _ (by omega), c6]
          try dsimp only
          rw [Nat.mod_eq_of_lt ha]
      · rw [r13, wf 13 _ (by omega), (hw2 wr).2, c7]
        try dsimp only
        rw [Nat.mod_eq_of_lt hr]
      · rw [r12, wf 12 _ (by omega)]
        exact hrg.1 i hi
      · rw [r13, r11, wf 13 _ (by omega), wf 11 _ (by omega)]
        exact hrg.2.1 t' r ht' hr
      · rw [r22]
        rw [r21] at hd'
        by_cases e : s' = s
        · subst e
          exact absurd d30 hl
        · rw [r30 s' e] at hl
          exact hrg.2.2 s' hs' hl hd'
      · rw [r03, wf 0 3 (by omega)]
        exact hft
      · omega
    · have w21 := (hw2 wr).1
      have wb : sm_wt (z 21) (z 30) s = 0 := by
        unfold sm_wt
        rw [if_pos (Or.inr (sm_n21 w21))]
      subst ew
      refine ⟨own, ft, ?_⟩
      refine sm_k_ret c ht hn hs (p := 99) (fun j i h1 h2 h3 h4 h5 h6 h7 h8 h9 => ?_) (sm_p0_none hrg) r14 rob r04 (fun r hr => ?_) hch.1 hk8 hch.2 (fun a ha => ?_) (fun r hr => ?_) d15 d16 d30 ⟨fun i hi => ?_, fun t' r ht' hr => ?_, fun s' hs' hl hd' => ?_⟩ ?_ ?_
      · rw [hfr j i (by omega) (by omega) (by omega) (by omega) (by omega) (by omega) (by omega) (by omega)]
      · rw [r10, r13, hR]
        unfold sm_R1
        rw [if_neg wr, c5]
        try dsimp only
        rw [Nat.mod_eq_of_lt hr]
      · rw [r5, hM]
        unfold sm_M1
        rw [if_neg (fun h => e11 h.1), c6]
        try dsimp only
        rw [Nat.mod_eq_of_lt ha]
      · rw [r13, (hw2 wr).2, c7]
        try dsimp only
        rw [Nat.mod_eq_of_lt hr]
      · rw [r12]
        exact hrg.1 i hi
      · rw [r13, r11]
        exact hrg.2.1 t' r ht' hr
      · rw [r22]
        rw [r21] at hd'
        by_cases e : s' = s
        · subst e
          exact absurd d30 hl
        · rw [r30 s' e] at hl
          exact hrg.2.2 s' hs' hl hd'
      · rw [r03]
        exact hft
      · omega
  obtain ⟨own', ft', core⟩ := core
  refine ⟨own', ft', sm_prm_fr (fun i hi => ?_) (funext fun i => ?_) hprm, core, fun i hi => ?_, fun t' ht' => ?_⟩
  · rw [hfr 0 i (by omega) (by omega) (by omega) (by omega) (by omega) (by omega) (by omega) (by omega), W0 i (by omega)]
  · exact fz 4 i (by omega) (by omega) (by omega) (by omega) (by omega) (by omega) (by omega) (by omega)
  · have h1 := hqs i hi
    unfold sm_kp at *
    rw [rob 31 i (by omega) (by omega) (by omega), rob 18 _ (by omega) (by omega) (by omega)]
    by_cases e : (z 31 i).toNatClampNeg = s
    · rw [e, hst] at h1
      exact absurd h1.2 (by decide)
    · rw [r30 _ e]
      exact h1
  · by_cases e : t' = t
    · subst e
      rw [sm_fn_y, sm_fn_y, sm_sh_y, sm_sh_y]
      have nx : ∀ x, sm_nx z' x = sm_nx z x := fun x => by
        unfold sm_nx
        rw [rob 18 x (by omega) (by omega) (by omega), rob 28 x (by omega) (by omega) (by omega), rob 29 x (by omega) (by omega) (by omega)]
      have ib : ∀ x, sm_isb z' x ↔ sm_isb z x := fun x => by
        unfold sm_isb
        rw [rob 20 x (by omega) (by omega) (by omega)]
      have nx0 : sm_nx z s = z 28 s := by
        unfold sm_nx
        rw [if_pos hst]
      refine ⟨⟨fun h0 => ?_, fun k hk => ?_⟩, fun ha => ?_, ?_⟩
      · rw [rob 17 _ (by omega) (by omega) (by omega), sm_sl_hs c2 (by omega), (pc2 0 (by omega)).2, ← hs, nx0, d7]
      · rw [rob 17 _ (by omega) (by omega) (by omega), sm_sl_hs c2 (by omega), sm_sl_hs c2 (by omega), ib, nx]
        exact pc2 (k + 1) (by omega)
      · have a33 := fz 33 t' (by omega) (by omega) (by omega) (by omega) (by omega) (by omega) (by omega) (by omega)
        have a32 := fz 32 t' (by omega) (by omega) (by omega) (by omega) (by omega) (by omega) (by omega) (by omega)
        rw [a33, a32, d7]
        rcases hfc hact with ⟨b1, b2, b3⟩ | ⟨b1, k, b2, b3⟩
        · refine Or.inl ⟨b1, fun h0 => ?_, fun k hk => ?_⟩
          · rw [(b3 0 (by omega)).2, ← hs, nx0]
          · rw [sm_sl_hs c2 (by omega), ib, nx]
            exact b3 (k + 1) (by omega)
        · cases k with
          | zero =>
            rw [← hs] at b3
            rcases b3 with b3 | b3 <;> (rw [hsp] at b3; exact absurd b3 (by decide))
          | succ k =>
            refine Or.inr ⟨b1, k, by omega, ?_⟩
            rw [sm_sl_hs c2 (by omega), ib]
            exact b3
      · have a36 := fz 36 t' (by omega) (by omega) (by omega) (by omega) (by omega) (by omega) (by omega) (by omega)
        have a6 := fz 6 t' (by omega) (by omega) (by omega) (by omega) (by omega) (by omega) (by omega) (by omega)
        have a1 : z' 1 = z 1 := funext fun i => fz 1 i (by omega) (by omega) (by omega) (by omega) (by omega) (by omega) (by omega) (by omega)
        have a2 : z' 2 = z 2 := funext fun i => fz 2 i (by omega) (by omega) (by omega) (by omega) (by omega) (by omega) (by omega) (by omega)
        have a3 : z' 3 = z 3 := funext fun i => fz 3 i (by omega) (by omega) (by omega) (by omega) (by omega) (by omega) (by omega) (by omega)
        have a4 : z' 4 = z 4 := funext fun i => fz 4 i (by omega) (by omega) (by omega) (by omega) (by omega) (by omega) (by omega) (by omega)
        rcases hfn with ⟨b1, _⟩ | ⟨b1, b2, qq, b3, b4, b5⟩
        · exact absurd b1 hact
        · refine Or.inr ⟨by rw [a36]; exact b1, by rw [a6]; exact b2, qt, ?_, d37, ?_⟩
          · omega
          · rw [hq37] at b4
            have eqq := sm_nI_inj (by omega) (by omega) b4
            subst eqq
            have go := sm_sq_go (z 1) (z 2) (z 3) (z 4 t') t' (R := R t' 0) (M := M t' 0) (pc := nI p') (rt := z 8 t') (dg := z 9 t') (o := o) (g := g) (m := m)
              (fun h => h.elim (fun h => nI_pos (by omega) h) (fun h => h hsz)) (by rw [nI_clamp (by omega)]; exact ho) (by rw [nI_clamp (by omega)]; exact hg) (by rw [nI_clamp (by omega)]; exact hm) ho0 hxs
            rw [v0, h17, b2] at b5
            have b6 : sm_it (sm_sq (z 1) (z 2) (z 3) (z 4 t') t') qt (sm_sq (z 1) (z 2) (z 3) (z 4 t') t' (R t' 0, M t' 0, nI p', 0, z 8 t', z 9 t')) = F t' := b5
            rw [go, ← hv, ← hR, ← hM, ← rs2] at b6
            rw [a1, a2, a3, a4, a6, b2, d7, d8, d9, h17]
            exact b6
    · rw [sm_fn_n H e, sm_fn_n N e, sm_sh_n R 0 e, sm_sh_n M 0 e]
      refine sm_ctl_fr (fun j h1 h2 => funext fun i => fz j i (by omega) (by omega) (by omega) (by omega) (by omega) (by omega) (by omega) (by omega)) (fun j h1 h2 h3 => ?_) (fun j k hk hj => ?_) (hctl t' ht')
      · rw [hfr j t' (by omega) (by omega) (by omega) (by omega) (by omega) (by omega) (by omega) (by omega), W1 j t' (by omega) (by omega) (by omega) (by omega) (by omega)]
      · exact rob j _ (by omega) (by omega) (by omega)
end
section
/-! commit, and retireOne -/
theorem sm_w_c125 {post : St2 → Prop} {z : sm_Z} {t s : Nat} {v : Int32} (ht : t < 4) (hs : s < 48)
    (h : post (sm_tp (sm_up (sm_up (sm_up z 9 t (z 9 t * 31 + 7 * z 17 s + v)) 7 t (z 28 s)) 8 t (z 8 t + 1)))) : wX_commit_125 post (nI t) (nI s) v (z 0 0) (z 0 1) (z 0 2) (z 0 3) (z 0 4) (z 0 5) (z 1) (z 2) (z 3) (z 4) (z 5) (z 6) (z 7) (z 8) (z 9) (z 10) (z 11) (z 12) (z 13) (z 14) (z 15) (z 16) (z 17) (z 18) (z 19) (z 20) (z 21) (z 22) (z 23) (z 24) (z 25) (z 26) (z 27) (z 28) (z 29) (z 30) (z 31) (z 32) (z 33) (z 34) (z 35) (z 36) (z 37) := by
  have it := vp_in_nI ht (show 4 < 2 ^ 31 by decide)
  have is := vp_in_nI hs (show 48 < 2 ^ 31 by decide)
  have et : (nI t).toNatClampNeg = t := nI_clamp (by omega)
  have es : (nI s).toNatClampNeg = s := nI_clamp (by omega)
  unfold wX_commit_125
  rw [et, es]
  exact ⟨it, is, it, nm_e ⟨is, it, nm_e ⟨it, it, nm_e h⟩⟩⟩
theorem sm_w_commit {post : St2 → Prop} {z : sm_Z} {t s p : Nat} (ht : t < 4) (hs : s < 48) (hp : p < 24) (h17 : z 17 s = nI p)
    (hA : ¬ z 21 s < 0 → ∃ d ft, d < 8 ∧ z 21 s = nI d ∧ vp_in (z 23 s) 56 ∧ z 0 3 = nI ft ∧ ft < 56 ∧
      ∀ w : sm_Z, (∀ j i, ¬ (j = 13 ∧ i = t * 8 + d) → ¬ (j = 11 ∧ i = (z 23 s).toNatClampNeg) → ¬ (j = 12 ∧ i = ft) → ¬ (j = 0 ∧ i = 3) → w j i = z j i) → w 13 (t * 8 + d) = z 22 s → w 11 (z 23 s).toNatClampNeg = 1 → w 12 ft = z 23 s → w 0 3 = nI (ft + 1) →
        post (sm_tp (sm_up (sm_up (sm_up w 9 t (w 9 t * 31 + 7 * w 17 s + z 26 s)) 7 t (w 28 s)) 8 t (w 8 t + 1))))
    (hB : z 21 s < 0 → z 1 (t * 24 + p) = 11 → ∃ a, a < 16 ∧ z 27 s = nI a ∧
      ∀ w : sm_Z, (∀ j i, ¬ (j = 5 ∧ i = t * 16 + (z 27 s).toNatClampNeg) → w j i = z j i) → w 5 (t * 16 + (z 27 s).toNatClampNeg) = z 26 s →
        post (sm_tp (sm_up (sm_up (sm_up w 9 t (w 9 t * 31 + 7 * w 17 s + (5 * z 27 s + z 26 s))) 7 t (w 28 s)) 8 t (w 8 t + 1))))
    (hC : z 21 s < 0 → z 1 (t * 24 + p) ≠ 11 → post (sm_tp (sm_up (sm_up (sm_up z 9 t (z 9 t * 31 + 7 * z 17 s + z 28 s)) 7 t (z 28 s)) 8 t (z 8 t + 1)))) :
    wpX_commit post (sm_tp z) (nI t) (nI s) := by
  have is := vp_in_nI hs (show 48 < 2 ^ 31 by decide)
  have es : (nI s).toNatClampNeg = s := nI_clamp (by omega)
  have e24 : nI t * 24 + z 17 s = nI (t * 24 + p) := by rw [h17, show (24 : Int32) = nI 24 from rfl, pk_mul, nI_add]
  unfold wpX_commit
  try dsimp only
  rw [es, e24]
  refine ⟨is, vp_in_nI (by omega) (by decide), nm_r (e' := z 1 (t * 24 + p)) (by rw [nI_clamp (by omega)]) ⟨is, nm_e ⟨is, br_c (fun h21 => br_c (fun h11 => ?_) (fun h11 => ?_)) (fun h21 => ?_)⟩⟩⟩
  · obtain ⟨a, ha, e27, H⟩ := hB h21 h11
    have e16 : nI t * 16 + z 27 s = nI (t * 16 + a) := by rw [e27, show (16 : Int32) = nI 16 from rfl, pk_mul, nI_add]
    have ea : (z 27 s).toNatClampNeg = a := by rw [e27, nI_clamp (by omega)]
    rw [ea] at H
    rw [e16]
    refine ⟨is, is, vp_in_nI (by omega) (by decide), nm_r (e' := upd (z 5) (t * 16 + a) (z 26 s)) (by rw [nI_clamp (by omega)]) ⟨is, is, nm_e ?_⟩⟩
    exact sm_w_c125 (z := sm_up z 5 (t * 16 + a) (z 26 s)) ht hs (H _ (fun j i h => sm_up_n _ _ _ _ (by omega)) (sm_up_y _ _ _ _))
  · exact ⟨is, nm_e (sm_w_c125 ht hs (hC h21 h11))⟩
  · obtain ⟨d, ft, hd, e21, hin, hft, hft56, H⟩ := hA h21
    have e8 : nI t * 8 + z 21 s = nI (t * 8 + d) := by rw [e21, show (8 : Int32) = nI 8 from rfl, pk_mul, nI_add]
    rw [e8]
    refine ⟨is, is, vp_in_nI (by omega) (by decide), nm_r (e' := upd (z 13) (t * 8 + d) (z 22 s)) (by rw [nI_clamp (by omega)]) ⟨is, ?_⟩⟩
    refine sm_w_give (z := sm_up z 13 (t * 8 + d) (z 22 s)) hin hft hft56 ?_
    refine sm_w_c125 (z := sm_up (sm_up (sm_up (sm_up z 13 (t * 8 + d) (z 22 s)) 11 (z 23 s).toNatClampNeg 1) 12 ft (z 23 s)) 0 3 (nI (ft + 1))) ht hs (H _ (fun j i h1 h2 h3 h4 => ?_) ?_ ?_ ?_ ?_)
    · rw [sm_up_n _ _ _ _ (by omega), sm_up_n _ _ _ _ (by omega), sm_up_n _ _ _ _ (by omega), sm_up_n _ _ _ _ (by omega)]
    · rw [sm_up_n _ _ _ _ (by omega), sm_up_n _ _ _ _ (by omega), sm_up_n _ _ _ _ (by omega), sm_up_y]
    · rw [sm_up_n _ _ _ _ (by omega), sm_up_n _ _ _ _ (by omega), sm_up_y]
    · rw [sm_up_n _ _ _ _ (by omega), sm_up_y]
    · rw [sm_up_y]
theorem sm_w_r111 {post : St2 → Prop} {z : sm_Z} {t : Nat} {x : Int32} (ht : t < 4)
    (h : post (sm_tp (sm_up (sm_up (sm_up (sm_up z 15 t x) 16 t (z 16 t - 1)) 37 t (z 37 t - 1)) 0 5 (z 0 5 + 1)))) : wX_retireOne_111 post (nI t) x (nI t) (z 0 0) (z 0 1) (z 0 2) (z 0 3) (z 0 4) (z 0 5) (z 1) (z 2) (z 3) (z 4) (z 5) (z 6) (z 7) (z 8) (z 9) (z 10) (z 11) (z 12) (z 13) (z 14) (z 15) (z 16) (z 17) (z 18) (z 19) (z 20) (z 21) (z 22) (z 23) (z 24) (z 25) (z 26) (z 27) (z 28) (z 29) (z 30) (z 31) (z 32) (z 33) (z 34) (z 35) (z 36) (z 37) := by
  have it := vp_in_nI ht (show 4 < 2 ^ 31 by decide)
  have et : (nI t).toNatClampNeg = t := nI_clamp (by omega)
  unfold wX_retireOne_111
  rw [et]
  exact ⟨it, nm_e ⟨it, it, nm_e ⟨it, it, nm_e (nm_e h)⟩⟩⟩
def sm_stc (z z' : sm_Z) : Prop := ∀ j, 1 ≤ j → j ≤ 4 → z' j = z j
theorem sm_stc_r (z : sm_Z) : sm_stc z z := fun _ _ _ => rfl
theorem sm_stc_t {z z' z'' : sm_Z} (a : sm_stc z z') (b : sm_stc z' z'') : sm_stc z z'' := fun j h1 h2 => (b j h1 h2).trans (a j h1 h2)
theorem sm_J_stop {T W V ex : Nat} {F : Nat → sm_A} {z z1 : sm_Z} {H N : Nat → Nat} {R M P : Nat → Nat → Nat → Int32} {own1 : Nat → Nat} {ft1 q1 t : Nat} (hprm : sm_prm T W V z)
    (hctl : ∀ t', t' < T → t' ≠ t → sm_ctl z t' (H t') (N t') (R t' 0) (M t' 0) (F t')) (hF : (R t 0, M t 0, z 7 t, z 6 t, z 8 t, z 9 t) = F t)
    (k1 : sm_cor T ex z1 H (sm_fn N t 0) R M P own1 ft1 q1) (k2 : sm_qs z1 q1) (k3 : sm_sqf z z1 t) : sm_J T W V ex F (sm_up z1 36 t 0) H (sm_fn N t 0) R M P own1 ft1 q1 := by
  obtain ⟨f1, f2, f3⟩ := k3
  refine ⟨sm_prm_fr (fun i hi => ?_) (funext fun i => ?_) hprm, sm_k_ms k1 (fun j x h1 h2 h3 => sm_up_n _ _ _ _ (by omega)), sm_qs_fr (fun j x hj => sm_up_n _ _ _ _ (by omega)) k2, fun t' ht' => ?_⟩
  · rw [sm_up_n _ _ _ _ (by omega), f2 i (by omega) (by omega)]
  · rw [sm_up_n _ _ _ _ (by omega), f1 4 i (by omega) (by omega) (by omega) (by omega) (by omega) (by omega) (by omega)]
  · by_cases e : t' = t
    · subst e
      rw [sm_fn_y]
      refine ⟨⟨fun h => absurd h (by omega), fun k hk => absurd hk (by omega)⟩, fun h => absurd (sm_up_y _ _ _ _) h, Or.inl ⟨sm_up_y _ _ _ _, rfl, ?_⟩⟩
      rw [sm_up_n _ _ _ _ (by omega), sm_up_n _ _ _ _ (by omega), sm_up_n _ _ _ _ (by omega), sm_up_n _ _ _ _ (by omega), f1 7 _ (by omega) (by omega) (by omega) (by omega) (by omega) (by omega) (by omega), f1 6 _ (by omega) (by omega) (by omega) (by omega) (by omega) (by omega) (by omega), f1 8 _ (by omega) (by omega) (by omega) (by omega) (by omega) (by omega) (by omega), f1 9 _ (by omega) (by omega) (by omega) (by omega) (by omega) (by omega) (by omega)]
      exact hF
    · rw [sm_fn_n N e]
      refine sm_ctl_fr (fun j h1 h2 => funext fun i => ?_) (fun j h1 h2 h3 => ?_) (fun j k hk hj => ?_) (hctl t' ht' e)
      · rw [sm_up_n _ _ _ _ (by omega), f1 j i (by omega) (by omega) (by omega) (by omega) (by omega) (by omega) (by omega)]
      · rw [sm_up_n _ _ _ _ (by omega), f1 j _ (by omega) (by omega) (by omega) (by omega) (by omega) (by omega) (by omega)]
      · rw [sm_up_n _ _ _ _ (by omega), f1 j _ (by omega) (by omega) (by omega) (by omega) (by omega) (by omega) (by omega)]
theorem sm_rk_stop {T ex : Nat} {z z1 : sm_Z} {H N : Nat → Nat} {R M P : Nat → Nat → Nat → Int32} {own1 : Nat → Nat} {ft1 q1 t : Nat}
    (k1 : sm_cor T ex z1 H (sm_fn N t 0) R M P own1 ft1 q1) (k3 : sm_sqf z z1 t) (k4 : sm_qm z z1) {t' e2 e1 e0 ee m : Nat} (ht' : t' < T) (e : t' ≠ t) (h : sm_rk e2 e1 e0 ee z t' (H t') (N t') m) :
    sm_rk e2 e1 e0 ee (sm_up z1 36 t 0) t' (H t') (sm_fn N t 0 t') m := by
  rw [sm_fn_n N e]
  have hT := k1.1
  have ct := k1.2.2.1 t' ht'
  rw [sm_fn_n N e] at ct
  obtain ⟨c1, c2, c3, c4, c5, c6, c7, c8, c9⟩ := ct
  obtain ⟨f1, f2, f3⟩ := k3
  refine sm_rk_fr (sm_sl_lt c2 (by omega) (by omega)) ?_ ?_ (fun _ => ?_) (fun _ => ?_) (fun h0 => ?_) (fun s i hs hp h30 h18 => ?_) h
  · rw [sm_up_n _ _ _ _ (by omega), f1 36 _ (by omega) (by omega) (by omega) (by omega) (by omega) (by omega) (by omega)]
  · rw [sm_up_n _ _ _ _ (by omega), f1 37 _ (by omega) (by omega) (by omega) (by omega) (by omega) (by omega) (by omega)]
  · rw [sm_up_n _ _ _ _ (by omega), f1 18 _ (by omega) (by omega) (by omega) (by omega) (by omega) (by omega) (by omega)]
  · rw [sm_up_n _ _ _ _ (by omega), f1 19 _ (by omega) (by omega) (by omega) (by omega) (by omega) (by omega) (by omega)]
  · rw [sm_up_n _ _ _ _ (by omega), (c9 0 h0).1]
    decide
  · rw [sm_up_n _ _ _ _ (by omega)] at h30 h18
    obtain ⟨j, hj, q, a, b, c, d⟩ := k4 s i hs hp h30 h18
    exact ⟨j, hj, q, by rw [sm_up_n _ _ _ _ (by omega)]; exact a, b, c, by rw [sm_up_n _ _ _ _ (by omega)]; exact d⟩
theorem sm_stc_stop {z z1 : sm_Z} {t : Nat} (k3 : sm_sqf z z1 t) : sm_stc z (sm_up z1 36 t 0) := fun j h1 h2 => funext fun i => by
  rw [sm_up_n _ _ _ _ (by omega), k3.1 j i (by omega) (by omega) (by omega) (by omega) (by omega) (by omega) (by omega)]
theorem sm_fn_le (N : Nat → Nat) {t k : Nat} (h : k ≤ N t) (t' : Nat) : sm_fn N t k t' ≤ N t' := by
  by_cases e : t' = t
  · subst e
    rw [sm_fn_y]
    exact h
  · rw [sm_fn_n N e]
    exact Nat.le_refl _
/-- what a step of thread t tells: the invariant, and that no other thread is put back -/
def sm_G1 (T W V ex : Nat) (F : Nat → sm_A) (z : sm_Z) (H N : Nat → Nat) (t : Nat) (z' : sm_Z) (H' N' : Nat → Nat) : Prop :=
  (∃ R M P own ft q, sm_J T W V ex F z' H' N' R M P own ft q) ∧ sm_stc z z' ∧ (∀ t', t' < T → N' t' ≤ N t') ∧
  (∀ t', t' < T → t' ≠ t → ∀ e2 e1 e0 ee m, sm_rk e2 e1 e0 ee z t' (H t') (N t') m → sm_rk e2 e1 e0 ee z' t' (H' t') (N' t') m)
theorem sm_w_ret1 {post : St2 → Prop} {T W V ex : Nat} {F : Nat → sm_A} {z : sm_Z} {H N : Nat → Nat} {R M P : Nat → Nat → Nat → Int32} {own : Nat → Nat} {ft q : Nat} (j : sm_J T W V ex F z H N R M P own ft q)
    {t : Nat} (ht : t < T) (hact : z 36 t ≠ 0)
    (hp : ∀ (z' : sm_Z) (H' N' : Nat → Nat), sm_G1 T W V ex F z H N t z' H' N' → (∀ m, sm_rk 1 1 6 23 z t (H t) (N t) m → sm_rk 2 1 6 23 z' t (H' t) (N' t) m) → post (sm_tp z')) :
    wpX_retireOne post (sm_tp z) (nI t) := by
  have hj := j
  obtain ⟨hprm, c, hqs, hctl⟩ := j
  have cc := c
  obtain ⟨hT, hex, hth, hrg, hft, hcn, hlv, hqq, q1, q2, q3, q4⟩ := cc
  obtain ⟨c1, c2, c3, c4, c5, c6, c7, c8, c9⟩ := hth t ht
  obtain ⟨⟨pc1, pc2⟩, hfc, hfn⟩ := hctl t ht
  have it := vp_in_nI (show t < 4 by omega) (show 4 < 2 ^ 31 by decide)
  have et : (nI t).toNatClampNeg = t := nI_clamp (by omega)
  obtain ⟨b1, b2, qt, b3, b4, b5⟩ : z 36 t = 1 ∧ z 6 t = 0 ∧ ∃ q, q ≤ 40 ∧ z 37 t = nI q ∧ sm_it (sm_sq (z 1) (z 2) (z 3) (z 4 t) t) q (R t 0, M t 0, z 7 t, z 6 t, z 8 t, z 9 t) = F t := by
    rcases hfn with ⟨b, _⟩ | b
    · exact absurd b hact
    · exact b
  have hid : sm_G1 T W V ex F z H N t z H N := ⟨⟨R, M, P, own, ft, q, hj⟩, sm_stc_r z, fun _ _ => Nat.le_refl _, fun _ _ _ _ _ _ _ _ h => h⟩
  unfold wpX_retireOne
  try dsimp only
  rw [et]
  refine ⟨it, br_c (fun h37 => ?_) (fun h37 => ⟨it, br_c (fun h16 => ?_) (fun h16 => ?_)⟩)⟩
  · rw [b4, show (0 : Int32) = nI 0 from rfl] at h37
    have e0 := sm_nI_inj (by omega) (by omega) h37
    subst e0
    refine sm_w_stop c ht (fun z1 own1 ft1 q1 k1 k2 k3 k4 => ?_)
    exact hp (sm_up z1 36 t 0) H (sm_fn N t 0) ⟨⟨R, M, P, own1, ft1, q1, sm_J_stop hprm (fun t' h _ => hctl t' h) b5 k1 k2 k3⟩, sm_stc_stop k3, fun t' _ => sm_fn_le N (by omega) t', fun t' h1 h2 e2 e1 e0 ee m h => sm_rk_stop k1 k3 k4 h1 h2 h⟩
      (fun m _ => Or.inl (sm_up_y _ _ _ _))
  · rw [c3, show (0 : Int32) = nI 0 from rfl] at h16
    have e0 := sm_nI_inj (by omega) (by omega) h16
    refine hp z H N hid (fun m h => ?_)
    rw [e0] at h ⊢
    unfold sm_rk at *
    rcases h with h | ⟨qa, d1, d2, d3 | d3⟩
    · exact Or.inl h
    · exact Or.inr ⟨qa, d1, d2, Or.inl d3⟩
    · exact absurd d3.1 (by omega)
  · have hn0 : N t ≠ 0 := fun e => h16 (by rw [c3, e]; rfl)
    obtain ⟨n, hn⟩ : ∃ n, N t = n + 1 := ⟨N t - 1, by omega⟩
    have hs48 := sm_sl_lt (t := t) c2 (show 0 < 12 by omega) (by omega)
    have is := vp_in_nI hs48 (show 48 < 2 ^ 31 by decide)
    have es : (nI (sm_sl (H t) t 0)).toNatClampNeg = sm_sl (H t) t 0 := nI_clamp (by omega)
    have ce := c9 0 (by omega)
    have epc := pc1 (by omega)
    refine sm_w_slot (k := 0) c1 (by omega) c2 (by omega) ?_
    generalize hs : sm_sl (H t) t 0 = s at *
    try dsimp only
    rw [es]
    refine ⟨is, br_c (fun h18 => ⟨is, br_c (fun h20 => ?_) (fun h20 => ?_)⟩) (fun h18 => ?_)⟩
    · obtain ⟨qp, hqp⟩ : ∃ qp, qt = qp + 1 := ⟨qt - 1, by
        have : qt ≠ 0 := fun e => h37 (by rw [b4, e]; rfl)
        omega⟩
      subst hqp
      obtain ⟨h30, hb | ⟨p, o, g, m, h17, hp24, hsz, ho, hg, hm, ho0, hA, hB, hw1, hw2, hR, hM, hsta⟩⟩ := ce
      · obtain ⟨_, _, hb⟩ := hb.1
        rcases hb with hb | hb <;> (rw [h20] at hb; exact absurd hb.1 (by decide))
      have hres : sm_res z s o g m (nI p) (R t 0) (M t 0) := by
        rcases hsta with ⟨x1, _⟩ | ⟨x1, _⟩ | ⟨_, x2, x3⟩
        · rw [h18] at x1; exact absurd x1 (by decide)
        · rw [h18] at x1; exact absurd x1 (by decide)
        · exact x2
      have fin : ∀ (w z' : sm_Z) (v : Int32), sm_rtd w z' t s (H t) n qp v →
          ((sm_wr o ∧ sm_rd g = sm_rd g ∧ v = z 26 s ∧ (∀ j i, ¬ (j = 13 ∧ i = t * 8 + sm_rd g) → ¬ (j = 11 ∧ i = (z 23 s).toNatClampNeg) → ¬ (j = 12 ∧ i = ft) → ¬ (j = 0 ∧ i = 3) → w j i = z j i) ∧ w 13 (t * 8 + sm_rd g) = z 22 s ∧ w 11 (z 23 s).toNatClampNeg = 1 ∧ w 12 ft = z 23 s ∧ w 0 3 = nI (ft + 1)) ∨
          (¬ sm_wr o ∧ o = 11 ∧ v = 5 * z 27 s + z 26 s ∧ (∀ j i, ¬ (j = 5 ∧ i = t * 16 + (z 27 s).toNatClampNeg) → w j i = z j i) ∧ w 5 (t * 16 + (z 27 s).toNatClampNeg) = z 26 s) ∨
          (¬ sm_wr o ∧ o ≠ 11 ∧ v = z 28 s ∧ w = z)) → post (sm_tp z') := by
        intro w z' v hd hw
        obtain ⟨own', ft', J'⟩ := sm_J_ret hj ht hn hs.symm hact b4 (by omega) h18 h20 h17 hp24 ho hg hm hw hd
        obtain ⟨hfr, d9, d7, d8, d30, d15, d16, d37⟩ := hd
        have W1 : ∀ jj i, jj ≠ 0 → jj ≠ 5 → jj ≠ 11 → jj ≠ 12 → jj ≠ 13 → w jj i = z jj i := by
          rcases hw with ⟨_, _, _, wf, _⟩ | ⟨_, _, _, wf, _⟩ | ⟨_, _, _, wf⟩
          · intro jj i h0 h1 h2 h3 h4
            exact wf jj i (by omega) (by omega) (by omega) (by omega)
          · intro jj i h0 h1 h2 h3 h4
            exact wf jj i (by omega)
          · intro jj i _ _ _ _ _
            rw [wf]
        have W0 : w 0 4 = z 0 4 := by
          rcases hw with ⟨_, _, _, wf, _⟩ | ⟨_, _, _, wf, _⟩ | ⟨_, _, _, wf⟩
          · exact wf 0 4 (by omega) (by omega) (by omega) (by omega)
          · exact wf 0 4 (by omega)
          · rw [wf]
        have fz : ∀ jj i, jj ≠ 0 → jj ≠ 5 → jj ≠ 11 → jj ≠ 12 → jj ≠ 13 → ¬ (7 ≤ jj ∧ jj ≤ 9) → ¬ (jj = 30 ∧ i = s) → ¬ ((jj = 15 ∨ jj = 16 ∨ jj = 37) ∧ i = t) → z' jj i = z jj i := fun jj i h0 h1 h2 h3 h4 h5 h6 h7 => by
          rw [hfr jj i (by omega) (by omega) (by omega) (by omega) (by omega) (by omega) (by omega) (by omega), W1 jj i h0 h1 h2 h3 h4]
        refine hp z' _ _ ⟨⟨_, _, _, own', ft', q, J'⟩, fun j h1 h2 => funext fun i => fz j i (by omega) (by omega) (by omega) (by omega) (by omega) (by omega) (by omega) (by omega), fun t' _ => sm_fn_le N (by omega) t', fun t' h1 h2 e2 e1 e0 ee m h => ?_⟩ (fun m h => ?_)
        · rw [sm_fn_n H h2, sm_fn_n N h2]
          obtain ⟨c1', c2', c3', c4', c5', c6', c7', c8', c9'⟩ := hth t' h1
          have hr' := sm_sl_rng (t := t') c2' (show 0 < 12 by omega)
          have hr := sm_sl_rng (t := t) c2 (show 0 < 12 by omega)
          rw [hs] at hr
          refine sm_rk_fr (by omega) ?_ ?_ (fun _ => ?_) (fun _ => ?_) (fun h0 => ?_) (sm_qm_id ?_ (funext fun i => ?_)) h
          · exact fz 36 _ (by omega) (by omega) (by omega) (by omega) (by omega) (by omega) (by omega) (by omega)
          · exact fz 37 _ (by omega) (by omega) (by omega) (by omega) (by omega) (by omega) (by omega) (by omega)
          · exact fz 18 _ (by omega) (by omega) (by omega) (by omega) (by omega) (by omega) (by omega) (by omega)
          · exact fz 19 _ (by omega) (by omega) (by omega) (by omega) (by omega) (by omega) (by omega) (by omega)
          · rw [fz 30 _ (by omega) (by omega) (by omega) (by omega) (by omega) (by omega) (by omega) (by omega), (c9' 0 h0).1]
            decide
          · rw [hfr 0 4 (by omega) (by omega) (by omega) (by omega) (by omega) (by omega) (by omega) (by omega), W0]
          · exact fz 31 _ (by omega) (by omega) (by omega) (by omega) (by omega) (by omega) (by omega) (by omega)
        · have hm1 : z 36 t = 0 ∨ 23 * (qp + 1) + 1 ≤ m := by
            rcases h with h | ⟨qa, g1, g2, g3⟩
            · exact Or.inl h
            · right
              rw [b4] at g1
              have := sm_nI_inj (by omega) (by omega) g1
              rcases g3 with ⟨g3, g4⟩ | ⟨g3, ⟨g4, g5⟩ | ⟨g4, τ, g5, g6, g7, g8⟩ | ⟨g4, i, g5, g6⟩⟩ <;> omega
          rcases hm1 with hm1 | hm1
          · exact absurd hm1 hact
          · exact sm_rk_any J'.2.1 ht d37 (by omega) (by omega) (by omega) (by omega) (by omega)
      have rest : ∀ (w : sm_Z) (v : Int32), (∀ j i, ¬ (j = 0 ∧ i = 3) → j ≠ 5 → j ≠ 11 → j ≠ 12 → j ≠ 13 → w j i = z j i) →
          (∀ z', sm_rtd w z' t s (H t) n qp v → post (sm_tp z')) →
          (vp_in (nI s) 48 ∧ ∀ a, a = upd (w 30) s 0 → (vp_in (nI t) 4 ∧ (((w 15 t = 11 → wX_retireOne_111 post (nI t) 0 (nI t) (w 0 0) (w 0 1) (w 0 2) (w 0 3) (w 0 4) (w 0 5) (w 1) (w 2) (w 3) (w 4) (w 5) (w 6) (sm_up (sm_up (sm_up w 9 t (w 9 t * 31 + 7 * w 17 s + v)) 7 t (w 28 s)) 8 t (w 8 t + 1) 7) (sm_up (sm_up (sm_up w 9 t (w 9 t * 31 + 7 * w 17 s + v)) 7 t (w 28 s)) 8 t (w 8 t + 1) 8) (sm_up (sm_up (sm_up w 9 t (w 9 t * 31 + 7 * w 17 s + v)) 7 t (w 28 s)) 8 t (w 8 t + 1) 9) (w 10) (w 11) (w 12) (w 13) (w 14) (w 15) (w 16) (w 17) (w 18) (w 19) (w 20) (w 21) (w 22) (w 23) (w 24) (w 25) (w 26) (w 27) (w 28) (w 29) a (w 31) (w 32) (w 33) (w 34) (w 35) (w 36) (w 37)) ∧
            (¬ w 15 t = 11 → (vp_in (nI t) 4 ∧ wX_retireOne_111 post (nI t) (w 15 t + 1) (nI t) (w 0 0) (w 0 1) (w 0 2) (w 0 3) (w 0 4) (w 0 5) (w 1) (w 2) (w 3) (w 4) (w 5) (w 6) (sm_up (sm_up (sm_up w 9 t (w 9 t * 31 + 7 * w 17 s + v)) 7 t (w 28 s)) 8 t (w 8 t + 1) 7) (sm_up (sm_up (sm_up w 9 t (w 9 t * 31 + 7 * w 17 s + v)) 7 t (w 28 s)) 8 t (w 8 t + 1) 8) (sm_up (sm_up (sm_up w 9 t (w 9 t * 31 + 7 * w 17 s + v)) 7 t (w 28 s)) 8 t (w 8 t + 1) 9) (w 10) (w 11) (w 12) (w 13) (w 14) (w 15) (w 16) (w 17) (w 18) (w 19) (w 20) (w 21) (w 22) (w 23) (w 24) (w 25) (w 26) (w 27) (w 28) (w 29) a (w 31) (w 32) (w 33) (w 34) (w 35) (w 36) (w 37))))))) := by
        intro w v hwf H0
        have w15 : w 15 t = nI (H t) := by rw [hwf 15 t (by omega) (by omega) (by omega) (by omega) (by omega)]; exact c1
        have w16 : w 16 t = nI (n + 1) := by rw [hwf 16 t (by omega) (by omega) (by omega) (by omega) (by omega), ← hn]; exact c3
        have w37 : w 37 t = nI (qp + 1) := by rw [hwf 37 t (by omega) (by omega) (by omega) (by omega) (by omega)]; exact b4
        have key : wX_retireOne_111 post (nI t) (nI (sm_hs (H t))) (nI t) (sm_up (sm_up (sm_up (sm_up w 9 t (w 9 t * 31 + 7 * w 17 s + v)) 7 t (w 28 s)) 8 t (w 8 t + 1)) 30 s 0 0 0) (sm_up (sm_up (sm_up (sm_up w 9 t (w 9 t * 31 + 7 * w 17 s + v)) 7 t (w 28 s)) 8 t (w 8 t + 1)) 30 s 0 0 1) (sm_up (sm_up (sm_up (sm_up w 9 t (w 9 t * 31 + 7 * w 17 s + v)) 7 t (w 28 s)) 8 t (w 8 t + 1)) 30 s 0 0 2) (sm_up (sm_up (sm_up (sm_up w 9 t (w 9 t * 31 + 7 * w 17 s + v)) 7 t (w 28 s)) 8 t (w 8 t + 1)) 30 s 0 0 3) (sm_up (sm_up (sm_up (sm_up w 9 t (w 9 t * 31 + 7 * w 17 s + v)) 7 t (w 28 s)) 8 t (w 8 t + 1)) 30 s 0 0 4) (sm_up (sm_up (sm_up (sm_up w 9 t (w 9 t * 31 + 7 * w 17 s + v)) 7 t (w 28 s)) 8 t (w 8 t + 1)) 30 s 0 0 5) (sm_up (sm_up (sm_up (sm_up w 9 t (w 9 t * 31 + 7 * w 17 s + v)) 7 t (w 28 s)) 8 t (w 8 t + 1)) 30 s 0 1) (sm_up (sm_up (sm_up (sm_up w 9 t (w 9 t * 31 + 7 * w 17 s + v)) 7 t (w 28 s)) 8 t (w 8 t + 1)) 30 s 0 2) (sm_up (sm_up (sm_up (sm_up w 9 t (w 9 t * 31 + 7 * w 17 s + v)) 7 t (w 28 s)) 8 t (w 8 t + 1)) 30 s 0 3) (sm_up (sm_up (sm_up (sm_up w 9 t (w 9 t * 31 + 7 * w 17 s + v)) 7 t (w 28 s)) 8 t (w 8 t + 1)) 30 s 0 4) (sm_up (sm_up (sm_up (sm_up w 9 t (w 9 t * 31 + 7 * w 17 s + v)) 7 t (w 28 s)) 8 t (w 8 t + 1)) 30 s 0 5) (sm_up (sm_up (sm_up (sm_up w 9 t (w 9 t * 31 + 7 * w 17 s + v)) 7 t (w 28 s)) 8 t (w 8 t + 1)) 30 s 0 6) (sm_up (sm_up (sm_up (sm_up w 9 t (w 9 t * 31 + 7 * w 17 s + v)) 7 t (w 28 s)) 8 t (w 8 t + 1)) 30 s 0 7) (sm_up (sm_up (sm_up (sm_up w 9 t (w 9 t * 31 + 7 * w 17 s + v)) 7 t (w 28 s)) 8 t (w 8 t + 1)) 30 s 0 8) (sm_up (sm_up (sm_up (sm_up w 9 t (w 9 t * 31 + 7 * w 17 s + v)) 7 t (w 28 s)) 8 t (w 8 t + 1)) 30 s 0 9) (sm_up (sm_up (sm_up (sm_up w 9 t (w 9 t * 31 + 7 * w 17 s + v)) 7 t (w 28 s)) 8 t (w 8 t + 1)) 30 s 0 10) (sm_up (sm_up (sm_up (sm_up w 9 t (w 9 t * 31 + 7 * w 17 s + v)) 7 t (w 28 s)) 8 t (w 8 t + 1)) 30 s 0 11) (sm_up (sm_up (sm_up (sm_up w 9 t (w 9 t * 31 + 7 * w 17 s + v)) 7 t (w 28 s)) 8 t (w 8 t + 1)) 30 s 0 12) (sm_up (sm_up (sm_up (sm_up w 9 t (w 9 t * 31 + 7 * w 17 s + v)) 7 t (w 28 s)) 8 t (w 8 t + 1)) 30 s 0 13) (sm_up (sm_up (sm_up (sm_up w 9 t (w 9 t * 31 + 7 * w 17 s + v)) 7 t (w 28 s)) 8 t (w 8 t + 1)) 30 s 0 14) (sm_up (sm_up (sm_up (sm_up w 9 t (w 9 t * 31 + 7 * w 17 s + v)) 7 t (w 28 s)) 8 t (w 8 t + 1)) 30 s 0 15) (sm_up (sm_up (sm_up (sm_up w 9 t (w 9 t * 31 + 7 * w 17 s + v)) 7 t (w 28 s)) 8 t (w 8 t + 1)) 30 s 0 16) (sm_up (sm_up (sm_up (sm_up w 9 t (w 9 t * 31 + 7 * w 17 s + v)) 7 t (w 28 s)) 8 t (w 8 t + 1)) 30 s 0 17) (sm_up (sm_up (sm_up (sm_up w 9 t (w 9 t * 31 + 7 * w 17 s + v)) 7 t (w 28 s)) 8 t (w 8 t + 1)) 30 s 0 18) (sm_up (sm_up (sm_up (sm_up w 9 t (w 9 t * 31 + 7 * w 17 s + v)) 7 t (w 28 s)) 8 t (w 8 t + 1)) 30 s 0 19) (sm_up (sm_up (sm_up (sm_up w 9 t (w 9 t * 31 + 7 * w 17 s + v)) 7 t (w 28 s)) 8 t (w 8 t + 1)) 30 s 0 20) (sm_up (sm_up (sm_up (sm_up w 9 t (w 9 t * 31 + 7 * w 17 s + v)) 7 t (w 28 s)) 8 t (w 8 t + 1)) 30 s 0 21) (sm_up (sm_up (sm_up (sm_up w 9 t (w 9 t * 31 + 7 * w 17 s + v)) 7 t (w 28 s)) 8 t (w 8 t + 1)) 30 s 0 22) (sm_up (sm_up (sm_up (sm_up w 9 t (w 9 t * 31 + 7 * w 17 s + v)) 7 t (w 28 s)) 8 t (w 8 t + 1)) 30 s 0 23) (sm_up (sm_up (sm_up (sm_up w 9 t (w 9 t * 31 + 7 * w 17 s + v)) 7 t (w 28 s)) 8 t (w 8 t + 1)) 30 s 0 24) (sm_up (sm_up (sm_up (sm_up w 9 t (w 9 t * 31 + 7 * w 17 s + v)) 7 t (w 28 s)) 8 t (w 8 t + 1)) 30 s 0 25) (sm_up (sm_up (sm_up (sm_up w 9 t (w 9 t * 31 + 7 * w 17 s + v)) 7 t (w 28 s)) 8 t (w 8 t + 1)) 30 s 0 26) (sm_up (sm_up (sm_up (sm_up w 9 t (w 9 t * 31 + 7 * w 17 s + v)) 7 t (w 28 s)) 8 t (w 8 t + 1)) 30 s 0 27) (sm_up (sm_up (sm_up (sm_up w 9 t (w 9 t * 31 + 7 * w 17 s + v)) 7 t (w 28 s)) 8 t (w 8 t + 1)) 30 s 0 28) (sm_up (sm_up (sm_up (sm_up w 9 t (w 9 t * 31 + 7 * w 17 s + v)) 7 t (w 28 s)) 8 t (w 8 t + 1)) 30 s 0 29) (sm_up (sm_up (sm_up (sm_up w 9 t (w 9 t * 31 + 7 * w 17 s + v)) 7 t (w 28 s)) 8 t (w 8 t + 1)) 30 s 0 30) (sm_up (sm_up (sm_up (sm_up w 9 t (w 9 t * 31 + 7 * w 17 s + v)) 7 t (w 28 s)) 8 t (w 8 t + 1)) 30 s 0 31) (sm_up (sm_up (sm_up (sm_up w 9 t (w 9 t * 31 + 7 * w 17 s + v)) 7 t (w 28 s)) 8 t (w 8 t + 1)) 30 s 0 32) (sm_up (sm_up (sm_up (sm_up w 9 t (w 9 t * 31 + 7 * w 17 s + v)) 7 t (w 28 s)) 8 t (w 8 t + 1)) 30 s 0 33) (sm_up (sm_up (sm_up (sm_up w 9 t (w 9 t * 31 + 7 * w 17 s + v)) 7 t (w 28 s)) 8 t (w 8 t + 1)) 30 s 0 34) (sm_up (sm_up (sm_up (sm_up w 9 t (w 9 t * 31 + 7 * w 17 s + v)) 7 t (w 28 s)) 8 t (w 8 t + 1)) 30 s 0 35) (sm_up (sm_up (sm_up (sm_up w 9 t (w 9 t * 31 + 7 * w 17 s + v)) 7 t (w 28 s)) 8 t (w 8 t + 1)) 30 s 0 36) (sm_up (sm_up (sm_up (sm_up w 9 t (w 9 t * 31 + 7 * w 17 s + v)) 7 t (w 28 s)) 8 t (w 8 t + 1)) 30 s 0 37) := by
          refine sm_w_r111 (by omega) (H0 _ ⟨fun j i h1 h2 h3 h4 h5 h6 h7 h8 => ?_, ?_, ?_, ?_, ?_, ?_, ?_, ?_⟩)
          · rw [sm_up_n _ _ _ _ (by omega), sm_up_n _ _ _ _ (by omega), sm_up_n _ _ _ _ (by omega), sm_up_n _ _ _ _ (by omega), sm_up_n _ _ _ _ (by omega), sm_up_n _ _ _ _ (by omega), sm_up_n _ _ _ _ (by omega), sm_up_n _ _ _ _ (by omega)]
          · rw [sm_up_n _ _ _ _ (by omega), sm_up_n _ _ _ _ (by omega), sm_up_n _ _ _ _ (by omega), sm_up_n _ _ _ _ (by omega), sm_up_n _ _ _ _ (by omega), sm_up_n _ _ _ _ (by omega), sm_up_n _ _ _ _ (by omega), sm_up_y]
          · rw [sm_up_n _ _ _ _ (by omega), sm_up_n _ _ _ _ (by omega), sm_up_n _ _ _ _ (by omega), sm_up_n _ _ _ _ (by omega), sm_up_n _ _ _ _ (by omega), sm_up_n _ _ _ _ (by omega), sm_up_y]
          · rw [sm_up_n _ _ _ _ (by omega), sm_up_n _ _ _ _ (by omega), sm_up_n _ _ _ _ (by omega), sm_up_n _ _ _ _ (by omega), sm_up_n _ _ _ _ (by omega), sm_up_y]
          · rw [sm_up_n _ _ _ _ (by omega), sm_up_n _ _ _ _ (by omega), sm_up_n _ _ _ _ (by omega), sm_up_n _ _ _ _ (by omega), sm_up_y]
          · rw [sm_up_n _ _ _ _ (by omega), sm_up_n _ _ _ _ (by omega), sm_up_n _ _ _ _ (by omega), sm_up_y]
          · rw [sm_up_n _ _ _ _ (by omega), sm_up_n _ _ _ _ (by omega), sm_up_y, sm_up_n _ _ _ _ (by omega), sm_up_n _ _ _ _ (by omega), sm_up_n _ _ _ _ (by omega), sm_up_n _ _ _ _ (by omega), w16, nI_pred]
          · rw [sm_up_n _ _ _ _ (by omega), sm_up_y, sm_up_n _ _ _ _ (by omega), sm_up_n _ _ _ _ (by omega), sm_up_n _ _ _ _ (by omega), sm_up_n _ _ _ _ (by omega), w37, nI_pred]
        rw [w15]
        refine ⟨is, nm_e ⟨it, pk_eq (H t) 11 (fun e => ?_) (fun e => ⟨it, ?_⟩)⟩⟩
        · rw [show nI (sm_hs (H t)) = 0 by unfold sm_hs; rw [if_pos e]; rfl] at key
          exact key
        · rw [show nI (sm_hs (H t)) = nI (H t) + 1 by unfold sm_hs; rw [if_neg e, nI_1]] at key
          exact key
      refine sm_w_commit (by omega) hs48 hp24 h17 (fun h21 => ?_) (fun h21 h11 => ?_) (fun h21 h11 => ?_)
      · have wr : sm_wr o := Classical.byContradiction fun w => h21 (sm_n21 (hw2 w).1)
        obtain ⟨e21, e23, eP⟩ := hw1 wr
        have hrd := sm_rd_lt g
        have e23' : z 23 s = z 13 (t * 8 + sm_rd g) := by
          rw [e23, c7]
          try dsimp only
          rw [Nat.mod_eq_of_lt hrd]
        refine ⟨sm_rd g, ft, hrd, e21, by rw [e23']; exact (hrg.2.1 t _ ht hrd).1, hft, by omega, fun w wf w13 w11 w12 w03 => ?_⟩
        exact rest w (z 26 s) (fun j i h1 h2 h3 h4 h5 => wf j i (by omega) (by omega) (by omega) (by omega)) (fun z' hd => fin w z' _ hd (Or.inl ⟨wr, rfl, rfl, wf, w13, w11, w12, w03⟩))
      · rw [ho] at h11
        have wr : ¬ sm_wr o := sm_wr11 h11
        obtain ⟨rs1, rs2, rs3, rs4⟩ := hres
        have bd : ¬ sm_bad (R t 0 (sm_ra g) + m) := fun bd => by
          rw [h20] at rs1
          subst h11
          unfold sm_xs at rs1
          rw [if_pos (by decide), if_neg (by decide), if_pos bd] at rs1
          exact absurd rs1 (by decide)
        obtain ⟨a, ha, ea⟩ := nI_of2 (M := 15) (n := 15) (by decide) (fun h => bd (Or.inl h)) (Classical.byContradiction fun h => bd (Or.inr h))
        refine ⟨a, by omega, by rw [rs4 h11, ea], fun w wf w5 => ?_⟩
        exact rest w (5 * z 27 s + z 26 s) (fun j i h1 h2 h3 h4 h5 => wf j i (by omega)) (fun z' hd => fin w z' _ hd (Or.inr (Or.inl ⟨wr, h11, rfl, wf, w5⟩)))
      · rw [ho] at h11
        have wr : ¬ sm_wr o := fun w => by
          have := (hw1 w).1
          rw [this] at h21
          exact nI_pos (by have := sm_rd_lt g; omega) h21
        exact rest z (z 28 s) (fun _ _ _ _ _ _ _ => rfl) (fun z' hd => fin z z' _ hd (Or.inr (Or.inr ⟨wr, h11, rfl, rfl⟩)))
    · have hsq : sm_sq (z 1) (z 2) (z 3) (z 4 t) t (R t 0, M t 0, z 7 t, 0, z 8 t, z 9 t) = (R t 0, M t 0, z 7 t, z 20 s, z 8 t, z 9 t) := by
        rw [← epc]
        obtain ⟨h30, hb | ⟨p, o, g, m, h17, hp24, hsz, ho, hg, hm, ho0, hA, hB, hw1, hw2, hR, hM, hsta⟩⟩ := ce
        · obtain ⟨_, _, hb⟩ := hb.1
          rcases hb with ⟨d1, d2⟩ | ⟨d1, d2, d3⟩
          · rw [sm_sq_pc _ _ _ _ _ d2, d1]
          · rw [sm_sq_hl _ _ _ _ _ d2 d3, d1]
        · have hres : sm_res z s o g m (nI p) (R t 0) (M t 0) := by
            rcases hsta with ⟨x1, _⟩ | ⟨x1, _⟩ | ⟨_, x2, x3⟩
            · rw [h18] at x1; exact absurd x1 (by decide)
            · rw [h18] at x1; exact absurd x1 (by decide)
            · exact x2
          rw [h17, sm_sq_tr (z 1) (z 2) (z 3) (z 4 t) t (o := o) (g := g) (m := m) (fun h => h.elim (fun h => nI_pos (by omega) h) (fun h => h hsz)) (by rw [nI_clamp (by omega)]; exact ho) (by rw [nI_clamp (by omega)]; exact hg) (by rw [nI_clamp (by omega)]; exact hm) ho0 (by rw [← hres.1]; exact h20), hres.1]
      obtain ⟨qp, hqp⟩ : ∃ qp, qt = qp + 1 := ⟨qt - 1, by
        have : qt ≠ 0 := fun e => h37 (by rw [b4, e]; rfl)
        omega⟩
      subst hqp
      rw [b2] at b5
      have b6 : sm_it (sm_sq (z 1) (z 2) (z 3) (z 4 t) t) qp (sm_sq (z 1) (z 2) (z 3) (z 4 t) t (R t 0, M t 0, z 7 t, 0, z 8 t, z 9 t)) = F t := b5
      rw [hsq, sm_it_fix _ (sm_sq_st _ _ _ _ _ h20)] at b6
      refine ⟨is, it, nm_e ?_⟩
      have cz : sm_cor T ex (sm_up z 6 t (z 20 s)) H N R M P own ft q := sm_k_ms c (fun j x h1 h2 h3 => sm_up_n _ _ _ _ (by omega))
      refine sm_w_stop (z := sm_up z 6 t (z 20 s)) cz ht (fun z1 own1 ft1 q1 k1 k2 k3 k4 => ?_)
      refine hp (sm_up z1 36 t 0) H (sm_fn N t 0) ⟨⟨R, M, P, own1, ft1, q1, sm_J_stop (z := sm_up z 6 t (z 20 s)) (sm_prm_fr (fun i hi => sm_up_n _ _ _ _ (by omega)) (funext fun i => sm_up_n _ _ _ _ (by omega)) hprm) (fun t' h1 h2 => ?_) ?_ k1 k2 k3⟩, sm_stc_t (fun j h1 h2 => funext fun i => sm_up_n _ _ _ _ (by omega)) (sm_stc_stop k3), fun t' _ => sm_fn_le N (by omega) t', fun t' h1 h2 e2 e1 e0 ee m h => sm_rk_stop k1 k3 k4 h1 h2 ?_⟩ (fun m _ => Or.inl (sm_up_y _ _ _ _))
      · exact sm_ctl_fr (fun j h1 h2 => funext fun i => sm_up_n _ _ _ _ (by omega)) (fun j h1 h2 h3 => sm_up_n _ _ _ _ (by omega)) (fun j k hk hj => sm_up_n _ _ _ _ (by omega)) (hctl t' h1)
      · rw [sm_up_n _ _ _ _ (by omega), sm_up_y, sm_up_n _ _ _ _ (by omega), sm_up_n _ _ _ _ (by omega)]
        exact b6
      · obtain ⟨c1', c2', c3', c4', c5', c6', c7', c8', c9'⟩ := hth t' h1
        refine sm_rk_fr (sm_sl_lt c2' (by omega) (by omega)) (sm_up_n _ _ _ _ (by omega)) (sm_up_n _ _ _ _ (by omega)) (fun _ => sm_up_n _ _ _ _ (by omega)) (fun _ => sm_up_n _ _ _ _ (by omega)) (fun h0 => ?_) (sm_qm_id (sm_up_n _ _ _ _ (by omega)) (funext fun i => sm_up_n _ _ _ _ (by omega))) h
        rw [sm_up_n _ _ _ _ (by omega), (c9' 0 h0).1]
        decide
    · refine hp z H N hid (fun m h => ?_)
      unfold sm_rk at *
      rw [hs] at h ⊢
      rcases h with h | ⟨qa, d1, d2, d3 | ⟨d3, ⟨d4, d5⟩ | d4⟩⟩
      · exact Or.inl h
      · exact Or.inr ⟨qa, d1, d2, Or.inl d3⟩
      · exact absurd d4 h18
      · exact Or.inr ⟨qa, d1, d2, Or.inr ⟨d3, Or.inr d4⟩⟩
end
section
/-! the retirement stage -/
def sm_K (T W V ex : Nat) (F : Nat → sm_A) (z : sm_Z) (H N : Nat → Nat) : Prop := ∃ R M P own ft q, sm_J T W V ex F z H N R M P own ft q
def sm_mR (T W V ex : Nat) (F : Nat → sm_A) (m : Nat → Nat) (z0 : sm_Z) (N0 : Nat → Nat) (t : Nat) (z : sm_Z) (H N : Nat → Nat) : Prop :=
  sm_K T W V ex F z H N ∧ sm_stc z0 z ∧ (∀ t', t' < T → N t' ≤ N0 t') ∧ ∀ t', t' < T → (t' < t → sm_rk 2 1 6 23 z t' (H t') (N t') (m t')) ∧ (t ≤ t' → sm_rk 1 1 6 23 z t' (H t') (N t') (m t'))
theorem sm_retS_in {post : St2 → Prop} {T W V ex : Nat} {F : Nat → sm_A} {m : Nat → Nat} {z0 : sm_Z} {N0 : Nat → Nat} {t : Nat} (ht : t < T) {J2 : Int32 → Int32 → Int32 → Int32 → Int32 → Int32 → Int32 → (Nat → Int32) → (Nat → Int32) → (Nat → Int32) → (Nat → Int32) → (Nat → Int32) → (Nat → Int32) → (Nat → Int32) → (Nat → Int32) → (Nat → Int32) → (Nat → Int32) → (Nat → Int32) → (Nat → Int32) → (Nat → Int32) → (Nat → Int32) → (Nat → Int32) → (Nat → Int32) → (Nat → Int32) → (Nat → Int32) → (Nat → Int32) → (Nat → Int32) → (Nat → Int32) → (Nat → Int32) → (Nat → Int32) → (Nat → Int32) → (Nat → Int32) → (Nat → Int32) → (Nat → Int32) → (Nat → Int32) → (Nat → Int32) → (Nat → Int32) → (Nat → Int32) → (Nat → Int32) → (Nat → Int32) → (Nat → Int32) → (Nat → Int32) → (Nat → Int32) → (Nat → Int32) → Prop}
    (hJ : ∀ (z : sm_Z) (H N : Nat → Nat), sm_mR T W V ex F m z0 N0 (t + 1) z H N → J2 (nI (t + 1)) (z 0 0) (z 0 1) (z 0 2) (z 0 3) (z 0 4) (z 0 5) (z 1) (z 2) (z 3) (z 4) (z 5) (z 6) (z 7) (z 8) (z 9) (z 10) (z 11) (z 12) (z 13) (z 14) (z 15) (z 16) (z 17) (z 18) (z 19) (z 20) (z 21) (z 22) (z 23) (z 24) (z 25) (z 26) (z 27) (z 28) (z 29) (z 30) (z 31) (z 32) (z 33) (z 34) (z 35) (z 36) (z 37)) :
    ∀ (r x : Nat) (z : sm_Z) (H N : Nat → Nat), W - x = r → x ≤ W → sm_mR T W V ex F m z0 N0 t z H N → (0 < x → sm_rk 2 1 6 23 z t (H t) (N t) (m t)) → wX_retireStage_12 post J2 (nI t) (r + 1) (nI x) (z 0 0) (z 0 1) (z 0 2) (z 0 3) (z 0 4) (z 0 5) (z 1) (z 2) (z 3) (z 4) (z 5) (z 6) (z 7) (z 8) (z 9) (z 10) (z 11) (z 12) (z 13) (z 14) (z 15) (z 16) (z 17) (z 18) (z 19) (z 20) (z 21) (z 22) (z 23) (z 24) (z 25) (z 26) (z 27) (z 28) (z 29) (z 30) (z 31) (z 32) (z 33) (z 34) (z 35) (z 36) (z 37) := by
  have nxt : ∀ (z : sm_Z) (H N : Nat → Nat), sm_mR T W V ex F m z0 N0 t z H N → sm_rk 2 1 6 23 z t (H t) (N t) (m t) → sm_mR T W V ex F m z0 N0 (t + 1) z H N := by
    intro z H N ⟨a1, a2, a3, a4⟩ b
    refine ⟨a1, a2, a3, fun t' ht' => ⟨fun h => ?_, fun h => (a4 t' ht').2 (by omega)⟩⟩
    by_cases e : t' = t
    · subst e
      exact b
    · exact (a4 t' ht').1 (by omega)
  intro r
  induction r with
  | zero =>
    intro x z H N hr hx g gx
    obtain ⟨R, M, P, own, ft, q, j⟩ := g.1
    have hW := j.1.2.2.2
    refine br_t ?_ (nm_r (nI_1 t) (hJ z H N (nxt z H N g (gx (by omega)))))
    rw [hW.1, nI_leI (by omega) (by omega)]
    omega
  | succ r ih =>
    intro x z H N hr hx g gx
    obtain ⟨R, M, P, own, ft, q, j⟩ := g.1
    have hW := j.1.2.2.2
    have hT := j.1.2.2.1
    have it := vp_in_nI (show t < 4 by omega) (show 4 < 2 ^ 31 by decide)
    have et : (nI t).toNatClampNeg = t := nI_clamp (by omega)
    refine br_f ?_ ⟨it, ?_⟩
    · rw [hW.1, nI_leI (by omega) (by omega)]
      omega
    · rw [et]
      refine br_c (fun ha => nm_r (nI_1 t) (hJ z H N (nxt z H N g (Or.inl ha)))) (fun ha => ?_)
      refine sm_w_ret1 j ht ha (fun z' H' N' g1 hr1 => nm_r (nI_1 x) ?_)
      obtain ⟨a1, a2, a3, a4⟩ := g
      have r2 := hr1 (m t) ((a4 t ht).2 (Nat.le_refl t))
      refine ih (x + 1) z' H' N' (by omega) (by omega) ⟨g1.1, sm_stc_t a2 g1.2.1, fun t' ht' => Nat.le_trans (g1.2.2.1 t' ht') (a3 t' ht'), fun t' ht' => ?_⟩ (fun _ => r2)
      by_cases e : t' = t
      · subst e
        exact ⟨fun h => absurd h (by omega), fun _ => sm_rk_wk (by omega) (by omega) (by omega) (by omega) r2⟩
      · exact ⟨fun h => g1.2.2.2 t' ht' e _ _ _ _ _ ((a4 t' ht').1 h), fun h => g1.2.2.2 t' ht' e _ _ _ _ _ ((a4 t' ht').2 h)⟩
theorem sm_retS_out {post : St2 → Prop} {T W V ex : Nat} {F : Nat → sm_A} {m : Nat → Nat} {z0 : sm_Z} {N0 : Nat → Nat}
    (hp : ∀ (z : sm_Z) (H N : Nat → Nat), sm_mR T W V ex F m z0 N0 T z H N → post (sm_tp z)) :
    ∀ (r t : Nat) (z : sm_Z) (H N : Nat → Nat), T - t = r → t ≤ T → sm_mR T W V ex F m z0 N0 t z H N → wX_retireStage_2 post (r + 1) (nI t) (z 0 0) (z 0 1) (z 0 2) (z 0 3) (z 0 4) (z 0 5) (z 1) (z 2) (z 3) (z 4) (z 5) (z 6) (z 7) (z 8) (z 9) (z 10) (z 11) (z 12) (z 13) (z 14) (z 15) (z 16) (z 17) (z 18) (z 19) (z 20) (z 21) (z 22) (z 23) (z 24) (z 25) (z 26) (z 27) (z 28) (z 29) (z 30) (z 31) (z 32) (z 33) (z 34) (z 35) (z 36) (z 37) := by
  intro r
  induction r with
  | zero =>
    intro t z H N hr hx g
    obtain ⟨R, M, P, own, ft, q, j⟩ := g.1
    have hT := j.1
    have hT4 := j.1.2.2.1
    have e : t = T := by omega
    subst e
    refine br_t ?_ (hp z H N g)
    rw [hT.1, nI_leI (by omega) (by omega)]
    exact Nat.le_refl _
  | succ r ih =>
    intro t z H N hr hx g
    obtain ⟨R, M, P, own, ft, q, j⟩ := g.1
    have hT := j.1
    have hT4 := j.1.2.2.1
    refine br_f ?_ ⟨W + 1, ?_⟩
    · rw [hT.1, nI_leI (by omega) (by omega)]
      omega
    · exact sm_retS_in (t := t) (by omega) (fun z H N g => ih (t + 1) z H N (by omega) (by omega) g) W 0 z H N (by omega) (by omega) g (fun h => absurd h (by omega))
theorem sm_w_retS {post : St2 → Prop} {T W V ex : Nat} {F : Nat → sm_A} {m : Nat → Nat} {z : sm_Z} {H N : Nat → Nat} (k : sm_K T W V ex F z H N) (hm : ∀ t, t < T → sm_rk 1 1 6 23 z t (H t) (N t) (m t))
    (hp : ∀ (z' : sm_Z) (H' N' : Nat → Nat), sm_K T W V ex F z' H' N' → sm_stc z z' → (∀ t, t < T → N' t ≤ N t) → (∀ t, t < T → sm_rk 2 1 6 23 z' t (H' t) (N' t) (m t)) → post (sm_tp z')) : wpX_retireStage post (sm_tp z) := by
  refine ⟨T + 1, sm_retS_out (m := m) (z0 := z) (N0 := N) (fun z' H' N' g => hp z' H' N' g.1 g.2.1 g.2.2.1 (fun t ht => (g.2.2.2 t ht).1 ht)) T 0 z H N (by omega) (by omega) ⟨k, sm_stc_r z, fun _ _ => Nat.le_refl _, fun t ht => ⟨fun h => absurd h (by omega), fun _ => hm t ht⟩⟩⟩
end
section
/-! one entry moves on -/
theorem sm_k_one {T ex : Nat} {z z' : sm_Z} {H N : Nat → Nat} {R M P : Nat → Nat → Nat → Int32} {own : Nat → Nat} {ft q : Nat} (c : sm_cor T ex z H N R M P own ft q)
    {t k s p : Nat} (ht : t < T) (hk : k < N t) (hs : s = sm_sl (H t) t k) (P0 : sm_p0 z T t s p) (ha : ∀ r, r < 8 → (z 13 (t * 8 + r)).toNatClampNeg ≠ p)
    (f : ∀ j i, j ≤ 31 → ¬ (6 ≤ j ∧ j ≤ 9) → ¬ (17 ≤ j ∧ j ≤ 29 ∧ j ≠ 21 ∧ j ≠ 22 ∧ i = s) → ¬ ((j = 10 ∨ j = 11) ∧ i = p) → ¬ (j = 0 ∧ i = 5) → z' j i = z j i)
    (h18 : z' 18 s ≠ 0) (he : sm_ent z' t s (R t k) (M t k) (P t k) (R t (k + 1)) (M t (k + 1)) (P t (k + 1))) : sm_cor T ex z' H N R M P own ft q := by
  obtain ⟨hT, hex, hth, hrg, hft, hcn, hlv, hq, q1, q2, q3, q4⟩ := c
  obtain ⟨c1, c2, c3, c4, c5, c6, c7, c8, c9⟩ := hth t ht
  have hs12 := sm_sl_rng (t := t) c2 (show k < 12 by omega)
  rw [← hs] at hs12
  have m8 : ∀ r : Nat, r % 8 < 8 := fun r => Nat.mod_lt r (by decide)
  have F : sm_fp z z' t s p := fun j i h1 h2 h3 h4 h5 h6 h7 h8 h9 => f j i (by omega) (by omega) (by omega) (by omega) (by omega)
  have row : ∀ j, (j = 5 ∨ j = 12 ∨ j = 13 ∨ j = 14 ∨ j = 21 ∨ j = 22 ∨ j = 30 ∨ j = 31) → z' j = z j := fun j hj => funext fun i => f j i (by omega) (by omega) (by omega) (by omega) (by omega)
  have hall : ∀ t' r, t' < T → r < 8 → (z 13 (t' * 8 + r)).toNatClampNeg ≠ p := fun t' r h1 h2 => by
    by_cases e : t' = t
    · subst e
      exact ha r h2
    · exact P0.1 t' r h1 e h2
  refine ⟨hT, hex, fun t' ht' => ?_, ⟨?_, ?_, ?_⟩, ?_, ?_, ?_, ?_, q1, ?_, ?_, ?_⟩
  · by_cases e : t' = t
    · subst e
      refine ⟨?_, c2, ?_, c4, ?_, ?_, ?_, ?_, fun j hj => ?_⟩
      · rw [f 15 t' (by omega) (by omega) (by omega) (by omega) (by omega)]
        exact c1
      · rw [f 16 t' (by omega) (by omega) (by omega) (by omega) (by omega)]
        exact c3
      · rw [c5, row 13 (by omega)]
        funext r
        have := ha _ (m8 r)
        show _ = z' 10 _
        rw [f 10 _ (by omega) (by omega) (by omega) (by omega) (by omega)]
      · rw [c6, row 5 (by omega)]
      · rw [c7, row 13 (by omega)]
      · rw [c8, row 14 (by omega)]
      · by_cases e : j = k
        · subst e
          rw [← hs]
          exact he
        · have hj' := sm_sl_rng (t := t') c2 (show j < 12 by omega)
          refine sm_ent_fr (sm_fp_ags F P0 (by omega) (fun e' => ?_) (c9 j (by omega)).1) (c9 j (by omega))
          rw [hs] at e'
          exact e (sm_sl_inj c2 (by omega) (by omega) e')
    · exact sm_fp_oth hT F P0 (by omega) ht' e (hth t' ht')
  · rw [row 12 (by omega)]
    exact hrg.1
  · intro t' r ht' hr
    rw [row 13 (by omega)]
    obtain ⟨a1, a2, a3⟩ := hrg.2.1 t' r ht' hr
    have := hall t' r ht' hr
    exact ⟨a1, a2, by rw [f 11 _ (by omega) (by omega) (by omega) (by omega) (by omega)]; exact a3⟩
  · rw [row 21 (by omega), row 22 (by omega), row 30 (by omega)]
    exact hrg.2.2
  · rw [f 0 3 (by omega) (by omega) (by omega) (by omega) (by omega)]
    exact hft
  · rw [row 21 (by omega), row 30 (by omega)]
    exact hcn
  · rw [row 30 (by omega)]
    exact hlv
  · rw [f 0 4 (by omega) (by omega) (by omega) (by omega) (by omega)]
    exact hq
  · rw [row 31 (by omega)]
    exact q2
  · rw [row 31 (by omega)]
    exact q3
  · rw [row 31 (by omega)]
    intro t' k' ht' hk' h0
    by_cases e : sm_sl (H t') t' k' = s
    · rw [e] at h0
      exact absurd h0 h18
    · rw [f 18 _ (by omega) (by omega) (by omega) (by omega) (by omega)] at h0
      exact q4 t' k' ht' hk' h0
theorem sm_ctl_fr2 {z z' : sm_Z} {t h n : Nat} {R0 M0 : Nat → Int32} {F : sm_A} (f : ∀ j, 1 ≤ j → j ≤ 4 → z' j = z j)
    (g : ∀ j, 6 ≤ j → j ≤ 37 → (j ≤ 9 ∨ j = 32 ∨ j = 33 ∨ 36 ≤ j) → z' j t = z j t)
    (e : ∀ k, k < n → z' 17 (sm_sl h t k) = z 17 (sm_sl h t k)) (nx : ∀ k, k < n → sm_nx z' (sm_sl h t k) = sm_nx z (sm_sl h t k)) (ib : ∀ k, k < n → (sm_isb z' (sm_sl h t k) ↔ sm_isb z (sm_sl h t k)))
    (c : sm_ctl z t h n R0 M0 F) : sm_ctl z' t h n R0 M0 F := by
  obtain ⟨⟨p1, p2⟩, p3, p4⟩ := c
  refine ⟨⟨fun h0 => ?_, fun k hk => ?_⟩, ?_, ?_⟩
  · rw [e 0 h0, g 7 (by omega) (by omega) (by omega)]
    exact p1 h0
  · rw [ib k (by omega), e (k + 1) hk, nx k (by omega)]
    exact p2 k hk
  · unfold sm_ftc
    rw [g 36 (by omega) (by omega) (by omega), g 33 (by omega) (by omega) (by omega), g 32 (by omega) (by omega) (by omega), g 7 (by omega) (by omega) (by omega)]
    intro ha
    rcases p3 ha with ⟨a1, a2, a3⟩ | ⟨a1, k, a2, a3⟩
    · refine Or.inl ⟨a1, a2, fun k hk => ?_⟩
      rw [ib k (by omega), nx k (by omega)]
      exact a3 k hk
    · refine Or.inr ⟨a1, k, a2, ?_⟩
      rw [ib k (by omega)]
      exact a3
  · unfold sm_fnl
    rw [g 36 (by omega) (by omega) (by omega), g 37 (by omega) (by omega) (by omega), g 6 (by omega) (by omega) (by omega), g 7 (by omega) (by omega) (by omega), g 8 (by omega) (by omega) (by omega), g 9 (by omega) (by omega) (by omega), f 1 (by omega) (by omega), f 2 (by omega) (by omega), f 3 (by omega) (by omega), f 4 (by omega) (by omega)]
    exact p4
/-! training: rows 34 and 35 alone -/
theorem sm_w_t101 {post : St2 → Prop} {z z0 : sm_Z} {a : Nat} {x : Int32} (ha : a < 96) (f : ∀ j i, j ≠ 34 → j ≠ 35 → z j i = z0 j i)
    (hp : ∀ z' : sm_Z, (∀ j i, j ≠ 34 → j ≠ 35 → z' j i = z0 j i) → post (sm_tp z')) : wX_train_101 post (nI a) x (z 0 0) (z 0 1) (z 0 2) (z 0 3) (z 0 4) (z 0 5) (z 1) (z 2) (z 3) (z 4) (z 5) (z 6) (z 7) (z 8) (z 9) (z 10) (z 11) (z 12) (z 13) (z 14) (z 15) (z 16) (z 17) (z 18) (z 19) (z 20) (z 21) (z 22) (z 23) (z 24) (z 25) (z 26) (z 27) (z 28) (z 29) (z 30) (z 31) (z 32) (z 33) (z 34) (z 35) (z 36) (z 37) := by
  have ia := vp_in_nI ha (show 96 < 2 ^ 31 by decide)
  unfold wX_train_101
  refine br_c (fun _ => ⟨ia, br_c (fun _ => hp z f) (fun _ => ⟨ia, ia, nm_e ?_⟩)⟩) (fun _ => hp z f)
  exact hp (sm_up z 34 (nI a).toNatClampNeg (z 34 (nI a).toNatClampNeg - 1)) (fun j i h1 h2 => by rw [sm_up_n _ _ _ _ (by omega)]; exact f j i h1 h2)
theorem sm_w_t74 {post : St2 → Prop} {z z0 : sm_Z} {a : Nat} {x : Int32} (ha : a < 96) (f : ∀ j i, j ≠ 34 → j ≠ 35 → z j i = z0 j i)
    (hp : ∀ z' : sm_Z, (∀ j i, j ≠ 34 → j ≠ 35 → z' j i = z0 j i) → post (sm_tp z')) : wX_train_74 post (nI a) x (z 0 0) (z 0 1) (z 0 2) (z 0 3) (z 0 4) (z 0 5) (z 1) (z 2) (z 3) (z 4) (z 5) (z 6) (z 7) (z 8) (z 9) (z 10) (z 11) (z 12) (z 13) (z 14) (z 15) (z 16) (z 17) (z 18) (z 19) (z 20) (z 21) (z 22) (z 23) (z 24) (z 25) (z 26) (z 27) (z 28) (z 29) (z 30) (z 31) (z 32) (z 33) (z 34) (z 35) (z 36) (z 37) := by
  have ia := vp_in_nI ha (show 96 < 2 ^ 31 by decide)
  unfold wX_train_74
  refine br_c (fun _ => sm_w_t101 ha f hp) (fun _ => ⟨ia, br_c (fun _ => sm_w_t101 ha f hp) (fun _ => ⟨ia, ia, nm_e ?_⟩)⟩)
  exact sm_w_t101 (z := sm_up z 34 (nI a).toNatClampNeg (z 34 (nI a).toNatClampNeg + 1)) ha (fun j i h1 h2 => by rw [sm_up_n _ _ _ _ (by omega)]; exact f j i h1 h2) hp
theorem sm_w_t39 {post : St2 → Prop} {z z0 : sm_Z} {a s : Nat} {x : Int32} (ha : a < 96) (hs : s < 48) (f : ∀ j i, j ≠ 34 → j ≠ 35 → z j i = z0 j i)
    (hp : ∀ z' : sm_Z, (∀ j i, j ≠ 34 → j ≠ 35 → z' j i = z0 j i) → post (sm_tp z')) : wX_train_39 post (nI s) (nI a) x (z 0 0) (z 0 1) (z 0 2) (z 0 3) (z 0 4) (z 0 5) (z 1) (z 2) (z 3) (z 4) (z 5) (z 6) (z 7) (z 8) (z 9) (z 10) (z 11) (z 12) (z 13) (z 14) (z 15) (z 16) (z 17) (z 18) (z 19) (z 20) (z 21) (z 22) (z 23) (z 24) (z 25) (z 26) (z 27) (z 28) (z 29) (z 30) (z 31) (z 32) (z 33) (z 34) (z 35) (z 36) (z 37) := by
  have ia := vp_in_nI ha (show 96 < 2 ^ 31 by decide)
  have is := vp_in_nI hs (show 48 < 2 ^ 31 by decide)
  have h54 : wX_train_54 post (nI s) (nI a) (z 0 0) (z 0 1) (z 0 2) (z 0 3) (z 0 4) (z 0 5) (z 1) (z 2) (z 3) (z 4) (z 5) (z 6) (z 7) (z 8) (z 9) (z 10) (z 11) (z 12) (z 13) (z 14) (z 15) (z 16) (z 17) (z 18) (z 19) (z 20) (z 21) (z 22) (z 23) (z 24) (z 25) (z 26) (z 27) (z 28) (z 29) (z 30) (z 31) (z 32) (z 33) (z 34) (z 35) (z 36) (z 37) := by
    unfold wX_train_54
    exact ⟨is, ia, br_c (fun _ => sm_w_t74 ha f hp) (fun _ => sm_w_t74 ha f hp)⟩
  unfold wX_train_39
  exact br_c (fun _ => h54) (fun _ => br_c (fun _ => h54) (fun _ => hp z f))
theorem sm_w_train {post : St2 → Prop} {z : sm_Z} {t s p : Nat} (ht : t < 4) (hs : s < 48) (hp24 : p < 24) (h17 : z 17 s = nI p)
    (hp : ∀ z' : sm_Z, (∀ j i, j ≠ 34 → j ≠ 35 → z' j i = z j i) → post (sm_tp z')) : wpX_train post (sm_tp z) (nI t) (nI s) := by
  have it := vp_in_nI ht (show 4 < 2 ^ 31 by decide)
  have is := vp_in_nI hs (show 48 < 2 ^ 31 by decide)
  have es : (nI s).toNatClampNeg = s := nI_clamp (by omega)
  have e24 : nI t * 24 + z 17 s = nI (t * 24 + p) := by rw [h17, show (24 : Int32) = nI 24 from rfl, pk_mul, nI_add]
  unfold wpX_train
  try dsimp only
  rw [es]
  refine ⟨is, nm_r e24 ⟨vp_in_nI (by omega) (by decide), nm_e (br_c (fun _ => ⟨is, it, nm_e ?_⟩) (fun _ => sm_w_t39 (by omega) hs (fun _ _ _ _ => rfl) hp))⟩⟩
  exact sm_w_t39 (z := sm_up z 35 (nI t).toNatClampNeg (z 28 s)) (by omega) hs (fun j i h1 h2 => sm_up_n _ _ _ _ (by omega)) hp
end
section
theorem sm_ent_x {z z' : sm_Z} {t s : Nat} {R M P R' M' P' : Nat → Int32} (h : sm_ent z t s R M P R' M' P') (h1 : z 18 s = 1) (f : ∀ j, 17 ≤ j → j ≤ 30 → j ≠ 18 → j ≠ 19 → z' j s = z j s) (g : ∀ j, 1 ≤ j → j ≤ 4 → z' j = z j)
    (hn : (z' 18 s = 1 ∧ (∃ τ, 1 ≤ τ ∧ τ ≤ 4 ∧ z' 19 s = nI τ) ∧ (¬ z 21 s < 0 → z' 11 (z 22 s).toNatClampNeg = z 11 (z 22 s).toNatClampNeg)) ∨
      (z' 18 s = 2 ∧ (¬ z 21 s < 0 → z' 11 (z 22 s).toNatClampNeg = 1 ∧ z' 10 (z 22 s).toNatClampNeg = z 26 s))) : sm_ent z' t s R M P R' M' P' := by
  have e17 := f 17 (by omega) (by omega) (by omega) (by omega)
  have e20 := f 20 (by omega) (by omega) (by omega) (by omega)
  have e21 := f 21 (by omega) (by omega) (by omega) (by omega)
  have e22 := f 22 (by omega) (by omega) (by omega) (by omega)
  have e23 := f 23 (by omega) (by omega) (by omega) (by omega)
  have e24 := f 24 (by omega) (by omega) (by omega) (by omega)
  have e25 := f 25 (by omega) (by omega) (by omega) (by omega)
  have e26 := f 26 (by omega) (by omega) (by omega) (by omega)
  have e27 := f 27 (by omega) (by omega) (by omega) (by omega)
  have e28 := f 28 (by omega) (by omega) (by omega) (by omega)
  have e30 := f 30 (by omega) (by omega) (by omega) (by omega)
  obtain ⟨h30, hb | ⟨p, o, g', m, h17, hp24, hsz, ho, hg, hm, ho0, hA, hB, hw1, hw2, hR, hM, hsta⟩⟩ := h
  · have := hb.1.1
    rw [h1] at this
    exact absurd this (by decide)
  have n21 : sm_wr o → ¬ z 21 s < 0 := fun w => by
    rw [(hw1 w).1]
    exact nI_pos (by have := sm_rd_lt g'; omega)
  refine ⟨by rw [e30]; exact h30, Or.inr ⟨p, o, g', m, by rw [e17]; exact h17, hp24, by rw [g 4 (by omega) (by omega)]; exact hsz, by rw [g 1 (by omega) (by omega)]; exact ho, by rw [g 2 (by omega) (by omega)]; exact hg, by rw [g 3 (by omega) (by omega)]; exact hm, ho0, by rw [e24]; exact hA, by rw [e25]; exact hB, by rw [e21, e23, e22]; exact hw1, by rw [e21]; exact hw2, hR, hM, ?_⟩⟩
  obtain ⟨x2, x3⟩ : sm_res z s o g' m (nI p) R M ∧ (sm_wr o → z 11 (z 22 s).toNatClampNeg = 0) := by
    rcases hsta with ⟨x1, _⟩ | ⟨_, x2, x3, _⟩ | ⟨x1, _⟩
    · rw [h1] at x1; exact absurd x1 (by decide)
    · exact ⟨x2, x3⟩
    · rw [h1] at x1; exact absurd x1 (by decide)
  have x2' : sm_res z' s o g' m (nI p) R M := by
    unfold sm_res at *
    rw [e20, e28, e26, e27]
    exact x2
  unfold sm_sta
  rw [e22, e26]
  rcases hn with ⟨n1, n2, n3⟩ | ⟨n1, n2⟩
  · exact Or.inr (Or.inl ⟨n1, x2', fun w => by rw [n3 (n21 w)]; exact x3 w, n2⟩)
  · exact Or.inr (Or.inr ⟨n1, x2', fun w => n2 (n21 w)⟩)
/-- an entry is done -/
def sm_dnr (z z' : sm_Z) (s : Nat) : Prop :=
  (∀ j i, j ≠ 34 → j ≠ 35 → ¬ ((j = 18 ∨ j = 19) ∧ i = s) → (z 21 s < 0 ∨ ¬ ((j = 10 ∨ j = 11) ∧ i = (z 22 s).toNatClampNeg)) → z' j i = z j i) ∧ z' 18 s = 2 ∧
  (¬ z 21 s < 0 → z' 11 (z 22 s).toNatClampNeg = 1 ∧ z' 10 (z 22 s).toNatClampNeg = z 26 s)
theorem sm_k_dn {T ex : Nat} {z z' : sm_Z} {H N : Nat → Nat} {R M P : Nat → Nat → Nat → Int32} {own : Nat → Nat} {ft q : Nat} (c : sm_cor T ex z H N R M P own ft q)
    {t k s : Nat} (ht : t < T) (hk : k < N t) (hs : s = sm_sl (H t) t k) (h1 : z 18 s = 1) (d : sm_dnr z z' s) : sm_cor T ex z' H N R M P own ft q := by
  obtain ⟨f, d18, dd⟩ := d
  have cc := c
  obtain ⟨hT, hex, hth, hrg, hft, hcn, hlv, hq, q1, q2, q3, q4⟩ := cc
  obtain ⟨c1, c2, c3, c4, c5, c6, c7, c8, c9⟩ := hth t ht
  have hs12 := sm_sl_rng (t := t) c2 (show k < 12 by omega)
  have ce := c9 k hk
  rw [← hs] at hs12 ce
  have n18 : z' 18 s ≠ 0 := by
    rw [d18]
    decide
  by_cases h21 : z 21 s < 0
  · refine sm_k_one (p := 99) c ht hk hs (sm_p0_none hrg) (fun r hr => ?_) (fun j i a1 a2 a3 a4 a5 => f j i (by omega) (by omega) (by omega) (Or.inl h21)) n18 ?_
    · have := sm_cl_lt (hrg.2.1 t r ht hr).1
      omega
    · exact sm_ent_x ce h1 (fun j a1 a2 a3 a4 => f j s (by omega) (by omega) (by omega) (Or.inl h21)) (fun j a1 a2 => funext fun i => f j i (by omega) (by omega) (by omega) (Or.inl h21)) (Or.inr ⟨d18, dd⟩)
  · obtain ⟨e1, e2⟩ := hrg.2.2 s (by omega) (by rw [ce.1]; decide) h21
    refine sm_k_one (p := (z 22 s).toNatClampNeg) c ht hk hs (sm_p0_own hrg (fun t' r a1 a2 a3 => by omega) (fun s' a1 a2 => by omega)) (fun r hr e => ?_) (fun j i a1 a2 a3 a4 a5 => f j i (by omega) (by omega) (by omega) (Or.inr a4)) n18 ?_
    · have := (hrg.2.1 t r ht hr).2.1
      rw [e] at this
      omega
    · exact sm_ent_x ce h1 (fun j a1 a2 a3 a4 => f j s (by omega) (by omega) (by omega) (Or.inr (by omega))) (fun j a1 a2 => funext fun i => f j i (by omega) (by omega) (by omega) (Or.inr (by omega))) (Or.inr ⟨d18, dd⟩)
/-- the stop of a normal entry -/
theorem sm_ent_nb {z : sm_Z} {t s : Nat} {R M P R' M' P' : Nat → Int32} (h : sm_ent z t s R M P R' M' P') (h1 : z 18 s ≠ 2) : ¬ sm_isb z s ∧ ∃ p, p < 24 ∧ z 17 s = nI p := by
  obtain ⟨h30, hb | ⟨p, o, g', m, h17, hp24, hsz, ho, hg, hm, ho0, hA, hB, hw1, hw2, hR, hM, hsta⟩⟩ := h
  · exact absurd hb.1.1 h1
  · refine ⟨fun hb => ?_, p, hp24, h17⟩
    have hx := sm_xs_c o (R (sm_ra g')) (R (sm_rb g')) m
    rcases hsta with ⟨_, x2, _⟩ | ⟨_, x2, _⟩ | ⟨x1, _⟩
    · rcases hb with hb | hb <;> (rw [x2] at hb; exact absurd hb (by decide))
    · rcases hb with hb | hb
      · rw [x2.1] at hb
        exact hx.1 hb
      · rw [x2.1] at hb
        exact hx.2 hb
    · exact absurd x1 h1
theorem sm_w_cmp1 {post : St2 → Prop} {T W V ex : Nat} {F : Nat → sm_A} {z : sm_Z} {H N : Nat → Nat} {R M P : Nat → Nat → Nat → Int32} {own : Nat → Nat} {ft q : Nat} (j : sm_J T W V ex F z H N R M P own ft q)
    {t k : Nat} (ht : t < T) (hk : k < N t)
    (hp : ∀ (z' : sm_Z) (N' : Nat → Nat), sm_G1 T W V ex F z H N t z' H N' → (k = 0 → ∀ m, sm_rk 2 1 6 23 z t (H t) (N t) m → sm_rk 2 2 6 23 z' t (H t) (N' t) m) → (k ≠ 0 → ∀ e2 e1 e0 ee m, sm_rk e2 e1 e0 ee z t (H t) (N t) m → sm_rk e2 e1 e0 ee z' t (H t) (N' t) m) → post (sm_tp z')) :
    wpX_completeOne post (sm_tp z) (nI t) (nI k) := by
  have hj := j
  obtain ⟨hprm, c, hqs, hctl⟩ := j
  have cc := c
  obtain ⟨hT, hex, hth, hrg, hft, hcn, hlv, hqq, q1, q2, q3, q4⟩ := cc
  obtain ⟨c1, c2, c3, c4, c5, c6, c7, c8, c9⟩ := hth t ht
  have hcl := hctl t ht
  obtain ⟨⟨pc1, pc2⟩, hfc, hfn⟩ := hctl t ht
  have it := vp_in_nI (show t < 4 by omega) (show 4 < 2 ^ 31 by decide)
  have et : (nI t).toNatClampNeg = t := nI_clamp (by omega)
  have hs48 := sm_sl_lt (t := t) c2 (show k < 12 by omega) (by omega)
  have hs12 := sm_sl_rng (t := t) c2 (show k < 12 by omega)
  have is := vp_in_nI hs48 (show 48 < 2 ^ 31 by decide)
  have es : (nI (sm_sl (H t) t k)).toNatClampNeg = sm_sl (H t) t k := nI_clamp (by omega)
  have ce := c9 k hk
  have inj : ∀ k', k' < N t → k' ≠ k → sm_sl (H t) t k' ≠ sm_sl (H t) t k := fun k' a1 a2 e => a2 (sm_sl_inj c2 (by omega) (by omega) e)
  have oth : ∀ t' k', t' < T → t' ≠ t → k' < N t' → sm_sl (H t') t' k' ≠ sm_sl (H t) t k := fun t' k' a1 a2 a3 e => by
    obtain ⟨_, d2, _, d4, _⟩ := hth t' a1
    exact a2 (sm_sl_thr d2 c2 (by omega) (by omega) e)
  unfold wpX_completeOne
  try dsimp only
  refine sm_w_slot (k := k) c1 (by omega) c2 (by omega) ?_
  generalize hs : sm_sl (H t) t k = s at *
  try dsimp only
  rw [es]
  refine ⟨is, br_c (fun h18 => ?_) (fun h18 => ?_)⟩
  · have hst := sm_ent_st ce
    obtain ⟨τ, t1, t2, h19⟩ : ∃ τ, 1 ≤ τ ∧ τ ≤ 4 ∧ z 19 s = nI τ := by
      rcases hst with a | ⟨_, a⟩ | a
      · rw [h18] at a; exact absurd a (by decide)
      · exact a
      · rw [h18] at a; exact absurd a (by decide)
    obtain ⟨τ, rfl⟩ : ∃ x, τ = x + 1 := ⟨τ - 1, by omega⟩
    obtain ⟨nb, p, hp24, h17⟩ := sm_ent_nb ce (by rw [h18]; decide)
    have hact : z 36 t ≠ 0 := by
      rcases hfn with ⟨_, b, _⟩ | ⟨b, _⟩
      · omega
      · rw [b]; decide
    -- the rank of the thread, from state 1
    have rk1 : ∀ m, k = 0 → sm_rk 2 1 6 23 z t (H t) (N t) m → ∃ qa, z 37 t = nI qa ∧ qa ≤ 40 ∧ 23 * qa + 1 + (τ + 1) ≤ m := fun m e h => by
      subst e
      unfold sm_rk at h
      rw [hs] at h
      rcases h with h | ⟨qa, g1, g2, ⟨g3, g4⟩ | ⟨g3, ⟨g4, g5⟩ | ⟨g4, τ', g5, g6, g7, g8⟩ | ⟨g4, i, g5, g6⟩⟩⟩
      · exact absurd h hact
      · omega
      · rw [h18] at g4; exact absurd g4 (by decide)
      · rw [h19] at g5
        have := sm_nI_inj (by omega) (by omega) g5
        exact ⟨qa, g1, g2, by omega⟩
      · rw [h18] at g4; exact absurd g4 (by decide)
    refine ⟨is, is, nm_e ⟨is, ?_⟩⟩
    rw [pk_us, h19, nI_pred]
    refine pk_le τ 0 (fun hτ => ?_) (fun hτ => ?_)
    · -- done
      have key : ∀ z2 : sm_Z, sm_dnr z z2 s → wX_completeOne_83 post (nI t) (nI k) (nI s) (z2 0 0) (z2 0 1) (z2 0 2) (z2 0 3) (z2 0 4) (z2 0 5) (z2 1) (z2 2) (z2 3) (z2 4) (z2 5) (z2 6) (z2 7) (z2 8) (z2 9) (z2 10) (z2 11) (z2 12) (z2 13) (z2 14) (z2 15) (z2 16) (z2 17) (z2 18) (z2 19) (z2 20) (z2 21) (z2 22) (z2 23) (z2 24) (z2 25) (z2 26) (z2 27) (z2 28) (z2 29) (z2 30) (z2 31) (z2 32) (z2 33) (z2 34) (z2 35) (z2 36) (z2 37) := by
        intro z2 d2
        unfold wX_completeOne_83
        refine sm_w_train (z := z2) (p := p) (by omega) hs48 hp24 (by rw [d2.1 17 s (by omega) (by omega) (by omega) (Or.inr (by omega))]; exact h17) (fun z3 f3 => ?_)
        have d : sm_dnr z z3 s := ⟨fun j i a1 a2 a3 a4 => by rw [f3 j i a1 a2]; exact d2.1 j i a1 a2 a3 a4, by rw [f3 18 s (by omega) (by omega)]; exact d2.2.1, fun h => by rw [f3 11 _ (by omega) (by omega), f3 10 _ (by omega) (by omega)]; exact d2.2.2 h⟩
        have c3' := sm_k_dn c ht hk hs.symm h18 d
        obtain ⟨f, d18, dd⟩ := d
        have ff : ∀ j i, j ≠ 34 → j ≠ 35 → j ≠ 10 → j ≠ 11 → ¬ ((j = 18 ∨ j = 19) ∧ i = s) → z3 j i = z j i := fun j i a1 a2 a3 a4 a5 => f j i a1 a2 a5 (Or.inr (by omega))
        have e28 := ff 28 s (by omega) (by omega) (by omega) (by omega) (by omega)
        have e29 := ff 29 s (by omega) (by omega) (by omega) (by omega) (by omega)
        try dsimp only
        rw [es, et]
        refine ⟨is, is, br_c (fun he => ?_) (fun he => ?_)⟩
        · rw [e28, e29] at he
          refine hp z3 N ⟨⟨R, M, P, own, ft, q, sm_prm_fr (fun i hi => ff 0 i (by omega) (by omega) (by omega) (by omega) (by omega)) (funext fun i => ff 4 i (by omega) (by omega) (by omega) (by omega) (by omega)) hprm, c3', fun i hi => ?_, fun t' ht' => ?_⟩, fun j a1 a2 => funext fun i => ff j i (by omega) (by omega) (by omega) (by omega) (by omega), fun _ _ => Nat.le_refl _, fun t' a1 a2 e2 e1 e0 ee m h => ?_⟩ (fun e m h => ?_) (fun e e2 e1 e0 ee m h => ?_)
          · have h1 := hqs i hi
            unfold sm_kp at *
            rw [ff 31 i (by omega) (by omega) (by omega) (by omega) (by omega)]
            have hne : (z 31 i).toNatClampNeg ≠ s := fun e => by
              rw [e, h18] at h1
              exact absurd h1.2 (by decide)
            rw [ff 30 _ (by omega) (by omega) (by omega) (by omega) (by omega), ff 18 _ (by omega) (by omega) (by omega) (by omega) (by omega)]
            exact h1
          · refine sm_ctl_fr2 (fun j a1 a2 => funext fun i => ff j i (by omega) (by omega) (by omega) (by omega) (by omega)) (fun j a1 a2 a3 => ff j t' (by omega) (by omega) (by omega) (by omega) (by omega)) (fun k' hk' => ff 17 _ (by omega) (by omega) (by omega) (by omega) (by omega)) (fun k' hk' => ?_) (fun k' hk' => ?_) (hctl t' ht')
            · unfold sm_nx
              rw [ff 28 _ (by omega) (by omega) (by omega) (by omega) (by omega), ff 29 _ (by omega) (by omega) (by omega) (by omega) (by omega)]
              by_cases e : sm_sl (H t') t' k' = s
              · rw [e, d18, h18, if_pos rfl, if_neg (by decide), he]
              · rw [ff 18 _ (by omega) (by omega) (by omega) (by omega) (by omega)]
            · unfold sm_isb
              rw [ff 20 _ (by omega) (by omega) (by omega) (by omega) (by omega)]
          · have hn0 : 0 < N t' → sm_sl (H t') t' 0 ≠ s := fun h0 => oth t' 0 a1 a2 h0
            obtain ⟨c1', c2', c3'', c4', c5', c6', c7', c8', c9'⟩ := hth t' a1
            refine sm_rk_fr (sm_sl_lt c2' (by omega) (by omega)) (ff 36 _ (by omega) (by omega) (by omega) (by omega) (by omega)) (ff 37 _ (by omega) (by omega) (by omega) (by omega) (by omega)) (fun h0 => ?_) (fun h0 => ?_) (fun h0 => ?_) (sm_qm_id (ff 0 4 (by omega) (by omega) (by omega) (by omega) (by omega)) (funext fun i => ff 31 i (by omega) (by omega) (by omega) (by omega) (by omega))) h
            · have := hn0 h0
              exact ff 18 _ (by omega) (by omega) (by omega) (by omega) (by omega)
            · have := hn0 h0
              exact ff 19 _ (by omega) (by omega) (by omega) (by omega) (by omega)
            · rw [ff 30 _ (by omega) (by omega) (by omega) (by omega) (by omega), (c9' 0 h0).1]
              decide
          · obtain ⟨qa, g1, g2, g3⟩ := rk1 m e h
            subst e
            refine Or.inr ⟨qa, by rw [ff 37 t (by omega) (by omega) (by omega) (by omega) (by omega)]; exact g1, g2, Or.inr ⟨hk, Or.inl ⟨by rw [hs]; exact d18, by omega⟩⟩⟩
          · have hn0 := inj 0 (by omega) (fun e' => e e'.symm)
            refine sm_rk_fr (sm_sl_lt c2 (by omega) (by omega)) (ff 36 _ (by omega) (by omega) (by omega) (by omega) (by omega)) (ff 37 _ (by omega) (by omega) (by omega) (by omega) (by omega)) (fun h0 => ?_) (fun h0 => ?_) (fun h0 => ?_) (sm_qm_id (ff 0 4 (by omega) (by omega) (by omega) (by omega) (by omega)) (funext fun i => ff 31 i (by omega) (by omega) (by omega) (by omega) (by omega))) h
            · exact ff 18 _ (by omega) (by omega) (by omega) (by omega) (by omega)
            · exact ff 19 _ (by omega) (by omega) (by omega) (by omega) (by omega)
            · rw [ff 30 _ (by omega) (by omega) (by omega) (by omega) (by omega), (c9 0 h0).1]
              decide
        · rw [nI_1]
          refine sm_w_sq (kp := k + 1) c3' ht (by omega) (fun z4 own4 ft4 q4 k1 k2 k3 k4 => ?_)
          try dsimp only
          refine ⟨is, it, nm_e ⟨it, nm_e ?_⟩⟩
          have gg : ∀ j i, j ≠ 34 → j ≠ 35 → j ≠ 0 → j ≠ 10 → j ≠ 11 → j ≠ 12 → j ≠ 14 → j ≠ 16 → j ≠ 30 → j ≠ 31 → ¬ ((j = 18 ∨ j = 19) ∧ i = s) → z4 j i = z j i := fun j i a1 a2 a3 a4 a5 a6 a7 a8 a9 a10 a11 => by
            rw [k3.1 j i a3 a5 a6 a7 a8 a9 a10, ff j i a1 a2 a4 a5 a11]
          have g18 : z4 18 s = 2 := by rw [k3.1 18 s (by omega) (by omega) (by omega) (by omega) (by omega) (by omega) (by omega)]; exact d18
          have u5 : ∀ j i, ¬ (j = 32 ∧ i = t) → ¬ (j = 33 ∧ i = t) → sm_up (sm_up z4 32 t (z4 28 s)) 33 t 0 j i = z4 j i := fun j i a1 a2 => by
            rw [sm_up_n _ _ _ _ (by omega), sm_up_n _ _ _ _ (by omega)]
          have v32 : sm_up (sm_up z4 32 t (z4 28 s)) 33 t 0 32 t = z4 28 s := by rw [sm_up_n _ _ _ _ (by omega), sm_up_y]
          have v33 : sm_up (sm_up z4 32 t (z4 28 s)) 33 t 0 33 t = 0 := sm_up_y _ _ _ _
          show post (sm_tp (sm_up (sm_up z4 32 t (z4 28 s)) 33 t 0))
          generalize sm_up (sm_up z4 32 t (z4 28 s)) 33 t 0 = z5 at *
          have hh : ∀ j i, j ≠ 34 → j ≠ 35 → j ≠ 0 → j ≠ 10 → j ≠ 11 → j ≠ 12 → j ≠ 14 → j ≠ 16 → j ≠ 30 → j ≠ 31 → ¬ ((j = 18 ∨ j = 19) ∧ i = s) → ¬ ((j = 32 ∨ j = 33) ∧ i = t) → z5 j i = z j i := fun j i a1 a2 a3 a4 a5 a6 a7 a8 a9 a10 a11 a12 => by
            rw [u5 j i (by omega) (by omega)]
            exact gg j i a1 a2 a3 a4 a5 a6 a7 a8 a9 a10 a11
          have kk1 := k1
          obtain ⟨_, _, hth4, _⟩ := kk1
          have nx : ∀ x, x ≠ s → sm_nx z5 x = sm_nx z x := fun x hx => by
            unfold sm_nx
            rw [hh 18 x (by omega) (by omega) (by omega) (by omega) (by omega) (by omega) (by omega) (by omega) (by omega) (by omega) (by omega) (by omega), hh 28 x (by omega) (by omega) (by omega) (by omega) (by omega) (by omega) (by omega) (by omega) (by omega) (by omega) (by omega) (by omega), hh 29 x (by omega) (by omega) (by omega) (by omega) (by omega) (by omega) (by omega) (by omega) (by omega) (by omega) (by omega) (by omega)]
          have ib : ∀ x, sm_isb z5 x ↔ sm_isb z x := fun x => by
            unfold sm_isb
            rw [hh 20 x (by omega) (by omega) (by omega) (by omega) (by omega) (by omega) (by omega) (by omega) (by omega) (by omega) (by omega) (by omega)]
          have r17 : ∀ x, z5 17 x = z 17 x := fun x => hh 17 x (by omega) (by omega) (by omega) (by omega) (by omega) (by omega) (by omega) (by omega) (by omega) (by omega) (by omega) (by omega)
          have rT : ∀ jj t', (jj = 6 ∨ jj = 7 ∨ jj = 8 ∨ jj = 9 ∨ jj = 36 ∨ jj = 37) → z5 jj t' = z jj t' := fun jj t' h => hh jj t' (by omega) (by omega) (by omega) (by omega) (by omega) (by omega) (by omega) (by omega) (by omega) (by omega) (by omega) (by omega)
          have rC : ∀ jj, 1 ≤ jj → jj ≤ 4 → z5 jj = z jj := fun jj a1 a2 => funext fun i => hh jj i (by omega) (by omega) (by omega) (by omega) (by omega) (by omega) (by omega) (by omega) (by omega) (by omega) (by omega) (by omega)
          have qm5 : sm_qm z z5 := fun x i hx hpo h30 h0 => by
            rw [u5 30 x (by omega) (by omega)] at h30
            rw [u5 18 x (by omega) (by omega)] at h0
            obtain ⟨q', a1, a2, a3, a4⟩ := hpo
            obtain ⟨y, y1, q'', y2, y3, y4, y5⟩ := k4 x i hx ⟨q', by rw [ff 0 4 (by omega) (by omega) (by omega) (by omega) (by omega)]; exact a1, a2, a3, by rw [ff 31 i (by omega) (by omega) (by omega) (by omega) (by omega)]; exact a4⟩ h30 h0
            exact ⟨y, y1, q'', by rw [u5 0 4 (by omega) (by omega)]; exact y2, y3, y4, by rw [u5 31 y (by omega) (by omega)]; exact y5⟩
          refine hp z5 (sm_fn N t (k + 1)) ⟨⟨R, M, P, own4, ft4, q4, sm_prm_fr (fun i hi => ?_) (rC 4 (by omega) (by omega)) hprm, sm_k_ms k1 (fun j x a1 a2 a3 => u5 j x (by omega) (by omega)), sm_qs_fr (fun j x hj => u5 j x (by omega) (by omega)) k2, fun t' ht' => ?_⟩, rC, fun t' _ => sm_fn_le N (by omega) t', fun t' a1 a2 e2 e1 e0 ee m h => ?_⟩ (fun e m h => ?_) (fun e e2 e1 e0 ee m h => ?_)
          · rw [u5 0 i (by omega) (by omega), k3.2.1 i (by omega) (by omega), ff 0 i (by omega) (by omega) (by omega) (by omega) (by omega)]
          · by_cases e : t' = t
            · subst e
              rw [sm_fn_y]
              refine ⟨⟨fun _ => ?_, fun k' hk' => ?_⟩, fun ha => Or.inl ⟨v33, fun h0 => absurd h0 (by omega), fun k' hk' => ?_⟩, ?_⟩
              · rw [r17, rT 7 t' (by omega)]
                exact pc1 (by omega)
              · rw [ib, r17, nx _ (inj k' (by omega) (by omega))]
                exact pc2 k' (by omega)
              · have : k' = k := by omega
                subst this
                rw [hs, ib, v32]
                refine ⟨nb, ?_⟩
                unfold sm_nx
                rw [u5 18 s (by omega) (by omega), g18, if_pos rfl, u5 28 s (by omega) (by omega)]
              · rcases hfn with ⟨b, _⟩ | ⟨b1, b2, b3⟩
                · exact absurd b hact
                · refine Or.inr ?_
                  rw [rT 36 t' (by omega), rT 6 t' (by omega), rT 37 t' (by omega), rT 7 t' (by omega), rT 8 t' (by omega), rT 9 t' (by omega), rC 1 (by omega) (by omega), rC 2 (by omega) (by omega), rC 3 (by omega) (by omega), rC 4 (by omega) (by omega)]
                  exact ⟨b1, b2, b3⟩
            · rw [sm_fn_n N e]
              refine sm_ctl_fr2 rC (fun j a1 a2 a3 => hh j t' (by omega) (by omega) (by omega) (by omega) (by omega) (by omega) (by omega) (by omega) (by omega) (by omega) (by omega) (by omega)) (fun k' hk' => r17 _) (fun k' hk' => nx _ (oth t' k' ht' e hk')) (fun k' hk' => ib _) (hctl t' ht')
          · rw [sm_fn_n N a2]
            have hn0 : 0 < N t' → sm_sl (H t') t' 0 ≠ s := fun h0 => oth t' 0 a1 a2 h0
            have ct' := hth4 t' a1
            rw [sm_fn_n N a2] at ct'
            obtain ⟨c1', c2', c3'', c4', c5', c6', c7', c8', c9'⟩ := ct'
            refine sm_rk_fr (sm_sl_lt c2' (by omega) (by omega)) (rT 36 _ (by omega)) (rT 37 _ (by omega)) (fun h0 => ?_) (fun h0 => ?_) (fun h0 => ?_) qm5 h
            · have := hn0 h0
              exact hh 18 _ (by omega) (by omega) (by omega) (by omega) (by omega) (by omega) (by omega) (by omega) (by omega) (by omega) (by omega) (by omega)
            · have := hn0 h0
              exact hh 19 _ (by omega) (by omega) (by omega) (by omega) (by omega) (by omega) (by omega) (by omega) (by omega) (by omega) (by omega) (by omega)
            · rw [u5 30 _ (by omega) (by omega), (c9' 0 h0).1]
              decide
          · rw [sm_fn_y]
            obtain ⟨qa, g1, g2, g3⟩ := rk1 m e h
            subst e
            refine Or.inr ⟨qa, by rw [rT 37 t (by omega)]; exact g1, g2, Or.inr ⟨by omega, Or.inl ⟨by rw [hs, u5 18 s (by omega) (by omega)]; exact g18, by omega⟩⟩⟩
          · rw [sm_fn_y]
            have hn0 := inj 0 (by omega) (fun e' => e e'.symm)
            have ct' := hth4 t ht
            rw [sm_fn_y] at ct'
            obtain ⟨c1', c2', c3'', c4', c5', c6', c7', c8', c9'⟩ := ct'
            refine sm_rk_fr2 (by omega) (sm_sl_lt c2 (by omega) (by omega)) (rT 36 _ (by omega)) (rT 37 _ (by omega)) (fun h0 => ?_) (fun h0 => ?_) (fun h0 => ?_) qm5 h
            · exact hh 18 _ (by omega) (by omega) (by omega) (by omega) (by omega) (by omega) (by omega) (by omega) (by omega) (by omega) (by omega) (by omega)
            · exact hh 19 _ (by omega) (by omega) (by omega) (by omega) (by omega) (by omega) (by omega) (by omega) (by omega) (by omega) (by omega) (by omega)
            · rw [u5 30 _ (by omega) (by omega), (c9' 0 (by omega)).1]
              decide
      refine ⟨is, nm_e ⟨is, br_c (fun h21 => ?_) (fun h21 => ?_)⟩⟩
      · refine key (sm_up (sm_up z 19 s (nI τ)) 18 s 2) ⟨fun j i a1 a2 a3 a4 => ?_, sm_up_y _ _ _ _, fun h => absurd h21 h⟩
        rw [sm_up_n _ _ _ _ (by omega), sm_up_n _ _ _ _ (by omega)]
      · obtain ⟨e1, e2⟩ := hrg.2.2 s (by omega) (by rw [ce.1]; decide) h21
        refine ⟨is, is, e1, nm_e ⟨is, e1, nm_e ?_⟩⟩
        refine key (sm_up (sm_up (sm_up (sm_up z 19 s (nI τ)) 18 s 2) 10 (z 22 s).toNatClampNeg (z 26 s)) 11 (z 22 s).toNatClampNeg 1) ⟨fun j i a1 a2 a3 a4 => ?_, ?_, fun _ => ⟨sm_up_y _ _ _ _, ?_⟩⟩
        · have a4' : ¬ ((j = 10 ∨ j = 11) ∧ i = (z 22 s).toNatClampNeg) := a4.elim (fun h => absurd h h21) id
          rw [sm_up_n _ _ _ _ (by omega), sm_up_n _ _ _ _ (by omega), sm_up_n _ _ _ _ (by omega), sm_up_n _ _ _ _ (by omega)]
        · rw [sm_up_n _ _ _ _ (by omega), sm_up_n _ _ _ _ (by omega), sm_up_y]
        · rw [sm_up_n _ _ _ _ (by omega), sm_up_y]
    · -- its timer runs
      have f : ∀ j i, ¬ (j = 19 ∧ i = s) → sm_up z 19 s (nI τ) j i = z j i := fun j i h => sm_up_n _ _ _ _ h
      have f19 : sm_up z 19 s (nI τ) 19 s = nI τ := sm_up_y _ _ _ _
      show post (sm_tp (sm_up z 19 s (nI τ)))
      generalize sm_up z 19 s (nI τ) = z' at *
      have c' : sm_cor T ex z' H N R M P own ft q := by
        refine sm_k_one (p := 99) c ht hk hs.symm (sm_p0_none hrg) (fun r hr => ?_) (fun j i a1 a2 a3 a4 a5 => f j i (by omega)) (by rw [f 18 s (by omega), h18]; decide) ?_
        · have := sm_cl_lt (hrg.2.1 t r ht hr).1
          omega
        · exact sm_ent_x ce h18 (fun j a1 a2 a3 a4 => f j s (by omega)) (fun j a1 a2 => funext fun i => f j i (by omega)) (Or.inl ⟨by rw [f 18 s (by omega)]; exact h18, ⟨τ, by omega, by omega, f19⟩, fun _ => f 11 _ (by omega)⟩)
      refine hp z' N ⟨⟨R, M, P, own, ft, q, sm_prm_fr (fun i hi => f 0 i (by omega)) (funext fun i => f 4 i (by omega)) hprm, c', sm_qs_fr (fun j x hj => f j x (by omega)) hqs, fun t' ht' => ?_⟩, fun j a1 a2 => funext fun i => f j i (by omega), fun _ _ => Nat.le_refl _, fun t' a1 a2 e2 e1 e0 ee m h => ?_⟩ (fun e m h => ?_) (fun e e2 e1 e0 ee m h => ?_)
      · exact sm_ctl_fr (fun j a1 a2 => funext fun i => f j i (by omega)) (fun j a1 a2 a3 => f j t' (by omega)) (fun j k' hk' hj => f j _ (by omega)) (hctl t' ht')
      · have hn0 : 0 < N t' → sm_sl (H t') t' 0 ≠ s := fun h0 => oth t' 0 a1 a2 h0
        obtain ⟨c1', c2', c3'', c4', c5', c6', c7', c8', c9'⟩ := hth t' a1
        refine sm_rk_fr (sm_sl_lt c2' (by omega) (by omega)) (f 36 _ (by omega)) (f 37 _ (by omega)) (fun h0 => f 18 _ (by omega)) (fun h0 => ?_) (fun h0 => ?_) (sm_qm_id (f 0 4 (by omega)) (funext fun i => f 31 i (by omega))) h
        · have := hn0 h0
          exact f 19 _ (by omega)
        · rw [f 30 _ (by omega), (c9' 0 h0).1]
          decide
      · obtain ⟨qa, g1, g2, g3⟩ := rk1 m e h
        subst e
        exact Or.inr ⟨qa, by rw [f 37 t (by omega)]; exact g1, g2, Or.inr ⟨hk, Or.inr (Or.inl ⟨by rw [hs, f 18 s (by omega)]; exact h18, τ, by rw [hs]; exact f19, by omega, by omega, by omega⟩)⟩⟩
      · have hn0 := inj 0 (by omega) (fun e' => e e'.symm)
        refine sm_rk_fr (sm_sl_lt c2 (by omega) (by omega)) (f 36 _ (by omega)) (f 37 _ (by omega)) (fun h0 => f 18 _ (by omega)) (fun h0 => f 19 _ (by omega)) (fun h0 => ?_) (sm_qm_id (f 0 4 (by omega)) (funext fun i => f 31 i (by omega))) h
        rw [f 30 _ (by omega), (c9 0 h0).1]
        decide
  · refine hp z N ⟨⟨R, M, P, own, ft, q, hj⟩, sm_stc_r z, fun _ _ => Nat.le_refl _, fun _ _ _ _ _ _ _ _ h => h⟩ (fun e m h => ?_) (fun _ _ _ _ _ _ h => h)
    subst e
    unfold sm_rk at *
    rw [hs] at h ⊢
    rcases h with h | ⟨qa, d1, d2, d3 | ⟨d3, d4 | ⟨d4, d5⟩ | d4⟩⟩
    · exact Or.inl h
    · exact Or.inr ⟨qa, d1, d2, Or.inl d3⟩
    · exact Or.inr ⟨qa, d1, d2, Or.inr ⟨d3, Or.inl d4⟩⟩
    · exact absurd d4 h18
    · exact Or.inr ⟨qa, d1, d2, Or.inr ⟨d3, Or.inr (Or.inr d4)⟩⟩
end
section
/-! the completion stage -/
def sm_mC (T W V ex : Nat) (F : Nat → sm_A) (m : Nat → Nat) (z0 : sm_Z) (H N0 : Nat → Nat) (t : Nat) (z : sm_Z) (N : Nat → Nat) : Prop :=
  sm_K T W V ex F z H N ∧ sm_stc z0 z ∧ (∀ t', t' < T → N t' ≤ N0 t') ∧ ∀ t', t' < T → (t' < t → sm_rk 2 2 6 23 z t' (H t') (N t') (m t')) ∧ (t < t' → sm_rk 2 1 6 23 z t' (H t') (N t') (m t'))
theorem sm_cmpS_in {post : St2 → Prop} {T W V ex : Nat} {F : Nat → sm_A} {m : Nat → Nat} {z0 : sm_Z} {H N0 : Nat → Nat} {t : Nat} (ht : t < T) {J2 : Int32 → Int32 → Int32 → Int32 → Int32 → Int32 → Int32 → (Nat → Int32) → (Nat → Int32) → (Nat → Int32) → (Nat → Int32) → (Nat → Int32) → (Nat → Int32) → (Nat → Int32) → (Nat → Int32) → (Nat → Int32) → (Nat → Int32) → (Nat → Int32) → (Nat → Int32) → (Nat → Int32) → (Nat → Int32) → (Nat → Int32) → (Nat → Int32) → (Nat → Int32) → (Nat → Int32) → (Nat → Int32) → (Nat → Int32) → (Nat → Int32) → (Nat → Int32) → (Nat → Int32) → (Nat → Int32) → (Nat → Int32) → (Nat → Int32) → (Nat → Int32) → (Nat → Int32) → (Nat → Int32) → (Nat → Int32) → (Nat → Int32) → (Nat → Int32) → (Nat → Int32) → (Nat → Int32) → (Nat → Int32) → (Nat → Int32) → (Nat → Int32) → Prop}
    (hJ : ∀ (z : sm_Z) (N : Nat → Nat), sm_mC T W V ex F m z0 H N0 t z N → sm_rk 2 2 6 23 z t (H t) (N t) (m t) → J2 (nI (t + 1)) (z 0 0) (z 0 1) (z 0 2) (z 0 3) (z 0 4) (z 0 5) (z 1) (z 2) (z 3) (z 4) (z 5) (z 6) (z 7) (z 8) (z 9) (z 10) (z 11) (z 12) (z 13) (z 14) (z 15) (z 16) (z 17) (z 18) (z 19) (z 20) (z 21) (z 22) (z 23) (z 24) (z 25) (z 26) (z 27) (z 28) (z 29) (z 30) (z 31) (z 32) (z 33) (z 34) (z 35) (z 36) (z 37)) :
    ∀ (r x : Nat) (z : sm_Z) (N : Nat → Nat), 12 - x = r → x ≤ 12 → sm_mC T W V ex F m z0 H N0 t z N → (x = 0 → sm_rk 2 1 6 23 z t (H t) (N t) (m t)) → (x ≠ 0 → sm_rk 2 2 6 23 z t (H t) (N t) (m t)) →
      wX_completeStage_12 post J2 (nI t) (r + 1) (nI x) (z 0 0) (z 0 1) (z 0 2) (z 0 3) (z 0 4) (z 0 5) (z 1) (z 2) (z 3) (z 4) (z 5) (z 6) (z 7) (z 8) (z 9) (z 10) (z 11) (z 12) (z 13) (z 14) (z 15) (z 16) (z 17) (z 18) (z 19) (z 20) (z 21) (z 22) (z 23) (z 24) (z 25) (z 26) (z 27) (z 28) (z 29) (z 30) (z 31) (z 32) (z 33) (z 34) (z 35) (z 36) (z 37) := by
  intro r
  induction r with
  | zero =>
    intro x z N hr hx g g0 g1
    obtain ⟨R, M, P, own, ft, q, j⟩ := g.1
    have hT := j.1.2.2.1
    obtain ⟨c1, c2, c3, c4, _⟩ := j.2.1.2.2.1 t ht
    have it := vp_in_nI (show t < 4 by omega) (show 4 < 2 ^ 31 by decide)
    refine ⟨it, ?_⟩
    rw [nI_clamp (show t < 2 ^ 31 by omega)]
    refine br_t ?_ (nm_r (nI_1 t) (hJ z N g (g1 (by omega))))
    rw [c3, nI_leI (by omega) (by omega)]
    omega
  | succ r ih =>
    intro x z N hr hx g g0 g1
    obtain ⟨R, M, P, own, ft, q, j⟩ := g.1
    have hT := j.1.2.2.1
    obtain ⟨c1, c2, c3, c4, _⟩ := j.2.1.2.2.1 t ht
    have it := vp_in_nI (show t < 4 by omega) (show 4 < 2 ^ 31 by decide)
    refine ⟨it, ?_⟩
    rw [nI_clamp (show t < 2 ^ 31 by omega)]
    refine pk_le (N t) x (fun h => nm_r (nI_1 t) (hJ z N g ?_)) (fun h => ?_) (hx := c3)
    · by_cases e : x = 0
      · have h0 : N t = 0 := by omega
        have := g0 e
        rw [h0] at this ⊢
        rcases this with h | ⟨qa, d1, d2, d3 | d3⟩
        · exact Or.inl h
        · exact Or.inr ⟨qa, d1, d2, Or.inl d3⟩
        · exact absurd d3.1 (by omega)
      · exact g1 e
    · refine sm_w_cmp1 j ht h (fun z' N' k1 k2 k3 => nm_r (nI_1 x) ?_)
      obtain ⟨a1, a2, a3, a4⟩ := g
      refine ih (x + 1) z' N' (by omega) (by omega) ⟨k1.1, sm_stc_t a2 k1.2.1, fun t' ht' => Nat.le_trans (k1.2.2.1 t' ht') (a3 t' ht'), fun t' ht' => ?_⟩ (fun e => absurd e (by omega)) (fun _ => ?_)
      · exact ⟨fun h => k1.2.2.2 t' ht' (by omega) _ _ _ _ _ ((a4 t' ht').1 h), fun h => k1.2.2.2 t' ht' (by omega) _ _ _ _ _ ((a4 t' ht').2 h)⟩
      · by_cases e : x = 0
        · exact k2 e _ (g0 e)
        · exact k3 e _ _ _ _ _ (g1 e)
theorem sm_cmpS_out {post : St2 → Prop} {T W V ex : Nat} {F : Nat → sm_A} {m : Nat → Nat} {z0 : sm_Z} {H N0 : Nat → Nat}
    (hp : ∀ (z : sm_Z) (N : Nat → Nat), sm_mC T W V ex F m z0 H N0 T z N → post (sm_tp z)) :
    ∀ (r t : Nat) (z : sm_Z) (N : Nat → Nat), T - t = r → t ≤ T → sm_mC T W V ex F m z0 H N0 t z N → (t < T → sm_rk 2 1 6 23 z t (H t) (N t) (m t)) → wX_completeStage_2 post (r + 1) (nI t) (z 0 0) (z 0 1) (z 0 2) (z 0 3) (z 0 4) (z 0 5) (z 1) (z 2) (z 3) (z 4) (z 5) (z 6) (z 7) (z 8) (z 9) (z 10) (z 11) (z 12) (z 13) (z 14) (z 15) (z 16) (z 17) (z 18) (z 19) (z 20) (z 21) (z 22) (z 23) (z 24) (z 25) (z 26) (z 27) (z 28) (z 29) (z 30) (z 31) (z 32) (z 33) (z 34) (z 35) (z 36) (z 37) := by
  intro r
  induction r with
  | zero =>
    intro t z N hr hx g _
    obtain ⟨R, M, P, own, ft, q, j⟩ := g.1
    have hT := j.1
    have hT4 := j.1.2.2.1
    have e : t = T := by omega
    subst e
    refine br_t ?_ (hp z N g)
    rw [hT.1, nI_leI (by omega) (by omega)]
    exact Nat.le_refl _
  | succ r ih =>
    intro t z N hr hx g g0
    obtain ⟨R, M, P, own, ft, q, j⟩ := g.1
    have hT := j.1
    have hT4 := j.1.2.2.1
    refine br_f ?_ ⟨12 + 1, ?_⟩
    · rw [hT.1, nI_leI (by omega) (by omega)]
      omega
    · refine sm_cmpS_in (t := t) (m := m) (z0 := z0) (N0 := N0) (by omega) (fun z N g g2 => ih (t + 1) z N (by omega) (by omega) ?_ (fun h => ?_)) 12 0 z N (by omega) (by omega) g (fun _ => g0 (by omega)) (fun h => absurd rfl h)
      · refine ⟨g.1, g.2.1, g.2.2.1, fun t' ht' => ⟨fun h => ?_, fun h => (g.2.2.2 t' ht').2 (by omega)⟩⟩
        by_cases e : t' = t
        · subst e
          exact g2
        · exact (g.2.2.2 t' ht').1 (by omega)
      · exact (g.2.2.2 (t + 1) h).2 (by omega)
theorem sm_w_cmpS {post : St2 → Prop} {T W V ex : Nat} {F : Nat → sm_A} {m : Nat → Nat} {z : sm_Z} {H N : Nat → Nat} (k : sm_K T W V ex F z H N) (hm : ∀ t, t < T → sm_rk 2 1 6 23 z t (H t) (N t) (m t))
    (hp : ∀ (z' : sm_Z) (N' : Nat → Nat), sm_K T W V ex F z' H N' → sm_stc z z' → (∀ t, t < T → N' t ≤ N t) → (∀ t, t < T → sm_rk 2 2 6 23 z' t (H t) (N' t) (m t)) → post (sm_tp z')) : wpX_completeStage post (sm_tp z) := by
  refine ⟨T + 1, sm_cmpS_out (m := m) (z0 := z) (H := H) (N0 := N) (fun z' N' g => hp z' N' g.1 g.2.1 g.2.2.1 (fun t ht => (g.2.2.2 t ht).1 ht)) T 0 z N (by omega) (by omega) ⟨k, sm_stc_r z, fun _ _ => Nat.le_refl _, fun t ht => ⟨fun h => absurd h (by omega), fun _ => hm t ht⟩⟩ (fun h => hm 0 h)⟩
end
section
/-! one entry is carried out -/
theorem sm_w_lat {post : Int32 → Prop} {o : Int32} (hp : ∀ τ, 1 ≤ τ → τ ≤ 4 → post (nI τ)) : wpX_latency post () o :=
  br_c (fun _ => hp 3 (by omega) (by omega)) (fun _ => br_c (fun _ => hp 4 (by omega) (by omega)) (fun _ => br_c (fun _ => hp 2 (by omega) (by omega)) (fun _ => hp 1 (by omega) (by omega))))
theorem sm_w_comp {post : Int32 → Prop} {o a b m : Int32} (hp : post (sm_cmp o a b m)) : wpX_compute post () o a b m := by
  unfold sm_cmp at hp
  unfold wpX_compute
  refine br_c (fun h => ?_) (fun h => ?_)
  · rw [if_pos h] at hp
    exact hp
  rw [if_neg h] at hp
  refine br_c (fun h => ?_) (fun h => ?_)
  · rw [if_pos h] at hp
    exact hp
  rw [if_neg h] at hp
  refine br_c (fun h => ?_) (fun h => ?_)
  · rw [if_pos h] at hp
    exact hp
  rw [if_neg h] at hp
  refine br_c (fun h => ?_) (fun h => ?_)
  · rw [if_pos h] at hp
    exact hp
  rw [if_neg h] at hp
  refine br_c (fun h => ?_) (fun h => ?_)
  · rw [if_pos h] at hp
    exact hp
  rw [if_neg h] at hp
  refine br_c (fun h => ?_) (fun h => ?_)
  · rw [if_pos h] at hp
    exact hp
  rw [if_neg h] at hp
  refine br_c (fun h => ?_) (fun h => ?_)
  · rw [if_pos h] at hp
    refine br_c (fun g => ?_) (fun g => ⟨g, ?_⟩)
    · rw [if_pos g] at hp
      exact hp
    · rw [if_neg g] at hp
      exact hp
  rw [if_neg h] at hp
  refine br_c (fun h => ?_) (fun h => ?_)
  · rw [if_pos h] at hp
    exact hp
  rw [if_neg h] at hp
  refine br_c (fun h => ?_) (fun h => ?_)
  · rw [if_pos h] at hp
    exact hp
  rw [if_neg h] at hp
  refine br_c (fun h => ?_) (fun h => trivial)
  rw [if_pos h] at hp
  exact hp
theorem sm_w_trans {post : St2 → Prop} {z : sm_Z} {s : Nat} {o a b m : Int32} (hs : s < 48)
    (hp : ∀ z' : sm_Z, (∀ j i, ¬ ((j = 26 ∨ j = 28) ∧ i = s) → z' j i = z j i) → (o = 14 → z' 26 s = z 17 s + 1) →
      z' 28 s = (if o = 14 then m else if o = 15 then a else if o = 12 then (if a = b then m else z 28 s) else if b ≤ a then z 28 s else m) → post (sm_tp z')) :
    wpX_transfer post (sm_tp z) (nI s) o a b m := by
  have is := vp_in_nI hs (show 48 < 2 ^ 31 by decide)
  have es : (nI s).toNatClampNeg = s := nI_clamp (by omega)
  unfold wpX_transfer
  try dsimp only
  rw [es]
  refine br_c (fun h => ⟨is, is, nm_e ⟨is, nm_e ?_⟩⟩) (fun h => br_c (fun h1 => ⟨is, nm_e ?_⟩) (fun h1 => br_c (fun h2 => br_c (fun h3 => ⟨is, nm_e ?_⟩) (fun h3 => ?_)) (fun h2 => br_c (fun h3 => ?_) (fun h3 => ⟨is, nm_e ?_⟩))))
  · refine hp (sm_up (sm_up z 26 s (z 17 s + 1)) 28 s m) (fun j i g => ?_) (fun _ => ?_) ?_
    · rw [sm_up_n _ _ _ _ (by omega), sm_up_n _ _ _ _ (by omega)]
    · rw [sm_up_n _ _ _ _ (by omega), sm_up_y]
    · rw [sm_up_y, if_pos h]
  · refine hp (sm_up z 28 s a) (fun j i g => sm_up_n _ _ _ _ (by omega)) (fun g => absurd g h) ?_
    rw [sm_up_y, if_neg h, if_pos h1]
  · refine hp (sm_up z 28 s m) (fun j i g => sm_up_n _ _ _ _ (by omega)) (fun g => absurd g h) ?_
    rw [sm_up_y, if_neg h, if_neg h1, if_pos h2, if_pos h3]
  · refine hp z (fun j i g => rfl) (fun g => absurd g h) ?_
    rw [if_neg h, if_neg h1, if_pos h2, if_neg h3]
  · refine hp z (fun j i g => rfl) (fun g => absurd g h) ?_
    rw [if_neg h, if_neg h1, if_neg h2, if_pos h3]
  · refine hp (sm_up z 28 s m) (fun j i g => sm_up_n _ _ _ _ (by omega)) (fun g => absurd g h) ?_
    rw [sm_up_y, if_neg h, if_neg h1, if_neg h2, if_neg h3]
theorem sm_w_acc {post : St2 → Prop} {z : sm_Z} {t s : Nat} {o e b : Int32} {L : Nat → Int32} (hs : s < 48)
    (hl : ∀ (a : Nat) (post' : Int32 → Prop) (w : sm_Z), a < 16 → ¬ o = 11 → (∀ j i, ¬ ((j = 26 ∨ j = 27) ∧ i = s) → w j i = z j i) → post' (L a) → wpX_load post' (sm_tp w) (nI t) (nI s) (nI a))
    (hp : ∀ z' : sm_Z, (∀ j i, ¬ ((j = 20 ∨ j = 26 ∨ j = 27) ∧ i = s) → z' j i = z j i) → z' 27 s = e → z' 20 s = (if sm_bad e then 3 else z 20 s) →
      z' 26 s = (if sm_bad e then 0 else if o = 11 then b else L e.toNatClampNeg) → post (sm_tp z')) :
    wpX_access post (sm_tp z) (nI t) (nI s) o e b := by
  have is := vp_in_nI hs (show 48 < 2 ^ 31 by decide)
  have es : (nI s).toNatClampNeg = s := nI_clamp (by omega)
  unfold wpX_access
  try dsimp only
  rw [es]
  have bad3 : sm_bad e → post (sm_tp (sm_up (sm_up (sm_up z 26 s 0) 27 s e) 20 s 3)) := fun bd => by
    refine hp _ (fun j i g => ?_) ?_ ?_ ?_
    · rw [sm_up_n _ _ _ _ (by omega), sm_up_n _ _ _ _ (by omega), sm_up_n _ _ _ _ (by omega)]
    · rw [sm_up_n _ _ _ _ (by omega), sm_up_y]
    · rw [sm_up_y, if_pos bd]
    · rw [sm_up_n _ _ _ _ (by omega), sm_up_n _ _ _ _ (by omega), sm_up_y, if_pos bd]
  refine ⟨is, nm_e ⟨is, nm_e (br_c (fun h => ⟨is, nm_e (bad3 (Or.inl h))⟩) (fun h => br_c (fun h1 => ?_) (fun h1 => ⟨is, nm_e (bad3 (Or.inr h1))⟩)))⟩⟩
  have nbd : ¬ sm_bad e := fun g => g.elim h (fun g => g h1)
  refine br_c (fun h2 => ⟨is, nm_e ?_⟩) (fun h2 => ?_)
  · refine hp (sm_up (sm_up (sm_up z 26 s 0) 27 s e) 26 s b) (fun j i g => ?_) ?_ ?_ ?_
    · rw [sm_up_n _ _ _ _ (by omega), sm_up_n _ _ _ _ (by omega), sm_up_n _ _ _ _ (by omega)]
    · rw [sm_up_n _ _ _ _ (by omega), sm_up_y]
    · rw [sm_up_n _ _ _ _ (by omega), sm_up_n _ _ _ _ (by omega), sm_up_n _ _ _ _ (by omega), if_neg nbd]
    · rw [sm_up_y, if_neg nbd, if_pos h2]
  · obtain ⟨a, ha, ea⟩ := nI_of2 (M := 15) (n := 15) (by decide) h h1
    subst ea
    refine hl a _ (sm_up (sm_up z 26 s 0) 27 s (nI a)) (by omega) h2 (fun j i g => ?_) ?_
    · rw [sm_up_n _ _ _ _ (by omega), sm_up_n _ _ _ _ (by omega)]
    · refine ⟨is, nm_e ?_⟩
      refine hp (sm_up (sm_up (sm_up z 26 s 0) 27 s (nI a)) 26 s (L a)) (fun j i g => ?_) ?_ ?_ ?_
      · rw [sm_up_n _ _ _ _ (by omega), sm_up_n _ _ _ _ (by omega), sm_up_n _ _ _ _ (by omega)]
      · rw [sm_up_n _ _ _ _ (by omega), sm_up_y]
      · rw [sm_up_n _ _ _ _ (by omega), sm_up_n _ _ _ _ (by omega), sm_up_n _ _ _ _ (by omega), if_neg nbd]
      · rw [sm_up_y, if_neg nbd, if_neg h2, nI_clamp (by omega)]
/-- what an execution leaves behind -/
def sm_exr (z z' : sm_Z) (s : Nat) (o a b m pc : Int32) (L : Nat → Int32) : Prop :=
  (∀ j i, ¬ ((18 ≤ j ∧ j ≤ 20 ∨ 26 ≤ j ∧ j ≤ 28) ∧ i = s) → z' j i = z j i) ∧ z' 18 s = 1 ∧ (∃ τ, 1 ≤ τ ∧ τ ≤ 4 ∧ z' 19 s = nI τ) ∧ z' 20 s = sm_xs o a b m ∧ z' 28 s = sm_xn o a b m pc ∧
  ((sm_wr o ∨ o = 11) → z' 26 s = sm_xv o a b m pc L) ∧ (o = 11 → z' 27 s = a + m)
theorem sm_lt11 {o : Int32} (h : ¬ 11 < o) (h9 : 9 < o) : o = 10 ∨ o = 11 := by
  have h1 := Int32.lt_iff_toInt_lt.mp h9
  have h2 : ¬ (11 : Int32).toInt < o.toInt := fun g => h (Int32.lt_iff_toInt_lt.mpr g)
  have e9 : (9 : Int32).toInt = 9 := by decide
  have e11 : (11 : Int32).toInt = 11 := by decide
  rw [e9] at h1
  rw [e11] at h2
  have : o.toInt = 10 ∨ o.toInt = 11 := by omega
  rcases this with g | g
  · exact Or.inl (Int32.toInt_inj.mp (g.trans (by decide)))
  · exact Or.inr (Int32.toInt_inj.mp (g.trans (by decide)))
theorem sm_w_exec {post : St2 → Prop} {z : sm_Z} {t s p : Nat} {o a b m : Int32} {L : Nat → Int32} (ht : t < 4) (hs : t * 12 ≤ s ∧ s < t * 12 + 12) (hp24 : p < 24) (h17 : z 17 s = nI p) (ho : z 1 (t * 24 + p) = o) (hm : z 3 (t * 24 + p) = m)
    (hA : vp_in (z 24 s) 56) (hB : vp_in (z 25 s) 56) (ha : z 10 (z 24 s).toNatClampNeg = a) (hb : z 10 (z 25 s).toNatClampNeg = b) (h20 : z 20 s = 0)
    (hl : o = 10 → ∀ (x : Nat) (post' : Int32 → Prop) (w : sm_Z), x < 16 → (∀ j i, ¬ ((18 ≤ j ∧ j ≤ 19 ∨ 26 ≤ j ∧ j ≤ 28) ∧ i = s) → w j i = z j i) → post' (L x) → wpX_load post' (sm_tp w) (nI t) (nI s) (nI x))
    (hp : ∀ z' : sm_Z, sm_exr z z' s o a b m (nI p) L → post (sm_tp z')) : wpX_execute post (sm_tp z) (nI s) := by
  have is := vp_in_nI (show s < 48 by omega) (show 48 < 2 ^ 31 by decide)
  have es : (nI s).toNatClampNeg = s := nI_clamp (by omega)
  have e12 : nI s / 12 = nI t := by
    rw [show (12 : Int32) = nI 12 from rfl, pk_div (by omega) (by omega) (by omega)]
    congr 1
    omega
  have e24 : nI t * 24 + z 17 s = nI (t * 24 + p) := by rw [h17, show (24 : Int32) = nI 24 from rfl, pk_mul, nI_add]
  have i96 := vp_in_nI (show t * 24 + p < 96 by omega) (show 96 < 2 ^ 31 by decide)
  have e96 : (nI (t * 24 + p)).toNatClampNeg = t * 24 + p := nI_clamp (by omega)
  unfold wpX_execute
  try dsimp only
  rw [es]
  refine ⟨by decide, nm_r e12 ⟨is, nm_r e24 ⟨i96, nm_r (e' := o) (by rw [e96]; exact ho) ⟨is, hA, nm_r ha ⟨is, hB, nm_r hb ⟨is, nm_e ?_⟩⟩⟩⟩⟩⟩
  rw [e96, hm, h17]
  refine sm_w_lat (fun τ t1 t2 => ⟨is, nm_e ⟨is, is, nm_e (br_c (fun h9 => br_c (fun h11 => ⟨i96, ?_⟩) (fun h11 => ⟨i96, ?_⟩)) (fun h9 => ⟨i96, ?_⟩))⟩⟩)
  · have w18 : ∀ j i, ¬ ((j = 18 ∨ j = 19 ∨ j = 28) ∧ i = s) → sm_up (sm_up (sm_up z 18 s 1) 19 s (nI τ)) 28 s (nI p + 1) j i = z j i := fun j i g => by
      rw [sm_up_n _ _ _ _ (by omega), sm_up_n _ _ _ _ (by omega), sm_up_n _ _ _ _ (by omega)]
    have v18 : sm_up (sm_up (sm_up z 18 s 1) 19 s (nI τ)) 28 s (nI p + 1) 18 s = 1 := by rw [sm_up_n _ _ _ _ (by omega), sm_up_n _ _ _ _ (by omega), sm_up_y]
    have v19 : sm_up (sm_up (sm_up z 18 s 1) 19 s (nI τ)) 28 s (nI p + 1) 19 s = nI τ := by rw [sm_up_n _ _ _ _ (by omega), sm_up_y]
    have v28 : sm_up (sm_up (sm_up z 18 s 1) 19 s (nI τ)) 28 s (nI p + 1) 28 s = nI p + 1 := sm_up_y _ _ _ _
    refine sm_w_trans (z := sm_up (sm_up (sm_up z 18 s 1) 19 s (nI τ)) 28 s (nI p + 1)) (by omega) (fun z' f g14 g28 => ?_)
    refine hp z' ⟨fun j i g => ?_, ?_, ⟨τ, t1, t2, ?_⟩, ?_, ?_, fun g => ?_, fun g => ?_⟩
    · rw [f j i (by omega), w18 j i (by omega)]
    · rw [f 18 s (by omega), v18]
    · rw [f 19 s (by omega), v19]
    · rw [f 20 s (by omega), w18 20 s (by omega), h20]
      unfold sm_xs
      rw [if_pos h9, if_pos h11]
    · rw [g28, v28]
      unfold sm_xn
      rw [if_pos h11]
    · have e14 : o = 14 := by
        rcases g with (g | g) | g
        · have h1 := Int32.lt_iff_toInt_lt.mp h11
          have h2 := Int32.le_iff_toInt_le.mp g
          have e10 : (10 : Int32).toInt = 10 := by decide
          have e11 : (11 : Int32).toInt = 11 := by decide
          omega
        · exact g
        · subst g
          exact absurd h11 (by decide)
      rw [g14 e14, w18 17 s (by omega), h17]
      unfold sm_xv
      rw [if_pos h9, if_pos h11]
    · subst g
      exact absurd h11 (by decide)
  · have w18 : ∀ j i, ¬ ((j = 18 ∨ j = 19 ∨ j = 28) ∧ i = s) → sm_up (sm_up (sm_up z 18 s 1) 19 s (nI τ)) 28 s (nI p + 1) j i = z j i := fun j i g => by
      rw [sm_up_n _ _ _ _ (by omega), sm_up_n _ _ _ _ (by omega), sm_up_n _ _ _ _ (by omega)]
    have v18 : sm_up (sm_up (sm_up z 18 s 1) 19 s (nI τ)) 28 s (nI p + 1) 18 s = 1 := by rw [sm_up_n _ _ _ _ (by omega), sm_up_n _ _ _ _ (by omega), sm_up_y]
    have v19 : sm_up (sm_up (sm_up z 18 s 1) 19 s (nI τ)) 28 s (nI p + 1) 19 s = nI τ := by rw [sm_up_n _ _ _ _ (by omega), sm_up_y]
    have v28 : sm_up (sm_up (sm_up z 18 s 1) 19 s (nI τ)) 28 s (nI p + 1) 28 s = nI p + 1 := sm_up_y _ _ _ _
    refine sm_w_acc (z := sm_up (sm_up (sm_up z 18 s 1) 19 s (nI τ)) 28 s (nI p + 1)) (L := L) (by omega) (fun x post' w hx n11 f hpp => ?_) (fun z' f g27 g20 g26 => ?_)
    · refine hl ((sm_lt11 h11 h9).elim id (fun g => absurd g n11)) x post' w hx (fun j i g => ?_) hpp
      rw [f j i (by omega), w18 j i (by omega)]
    · refine hp z' ⟨fun j i g => ?_, ?_, ⟨τ, t1, t2, ?_⟩, ?_, ?_, fun g => ?_, fun g => g27⟩
      · rw [f j i (by omega), w18 j i (by omega)]
      · rw [f 18 s (by omega), v18]
      · rw [f 19 s (by omega), v19]
      · rw [g20, w18 20 s (by omega), h20]
        unfold sm_xs
        rw [if_pos h9, if_neg h11]
      · rw [f 28 s (by omega), v28]
        unfold sm_xn
        rw [if_neg h11]
      · rw [g26]
        unfold sm_xv
        rw [if_pos h9, if_neg h11]
  · refine sm_w_comp ⟨is, nm_e ?_⟩
    have fin : ∀ x : Int32, x = sm_xs o a b m → post (sm_tp (sm_up (sm_up (sm_up (sm_up (sm_up z 18 s 1) 19 s (nI τ)) 28 s (nI p + 1)) 26 s (sm_cmp o a b m)) 20 s x)) := fun x hx => by
      refine hp _ ⟨fun j i g => ?_, ?_, ⟨τ, t1, t2, ?_⟩, ?_, ?_, fun g => ?_, fun g => ?_⟩
      · rw [sm_up_n _ _ _ _ (by omega), sm_up_n _ _ _ _ (by omega), sm_up_n _ _ _ _ (by omega), sm_up_n _ _ _ _ (by omega), sm_up_n _ _ _ _ (by omega)]
      · rw [sm_up_n _ _ _ _ (by omega), sm_up_n _ _ _ _ (by omega), sm_up_n _ _ _ _ (by omega), sm_up_n _ _ _ _ (by omega), sm_up_y]
      · rw [sm_up_n _ _ _ _ (by omega), sm_up_n _ _ _ _ (by omega), sm_up_n _ _ _ _ (by omega), sm_up_y]
      · rw [sm_up_y, hx]
      · rw [sm_up_n _ _ _ _ (by omega), sm_up_n _ _ _ _ (by omega), sm_up_y]
        unfold sm_xn
        rw [if_neg (fun g => h9 ?_)]
        have h1 := Int32.lt_iff_toInt_lt.mp g
        have e9 : (9 : Int32).toInt = 9 := by decide
        have e11 : (11 : Int32).toInt = 11 := by decide
        exact Int32.lt_iff_toInt_lt.mpr (by omega)
      · rw [sm_up_n _ _ _ _ (by omega), sm_up_y]
        unfold sm_xv
        rw [if_neg h9]
      · subst g
        exact absurd (by decide) h9
    have fin0 : sm_xs o a b m = 0 → post (sm_tp (sm_up (sm_up (sm_up (sm_up z 18 s 1) 19 s (nI τ)) 28 s (nI p + 1)) 26 s (sm_cmp o a b m))) := fun hx => by
      refine hp _ ⟨fun j i g => ?_, ?_, ⟨τ, t1, t2, ?_⟩, ?_, ?_, fun g => ?_, fun g => ?_⟩
      · rw [sm_up_n _ _ _ _ (by omega), sm_up_n _ _ _ _ (by omega), sm_up_n _ _ _ _ (by omega), sm_up_n _ _ _ _ (by omega)]
      · rw [sm_up_n _ _ _ _ (by omega), sm_up_n _ _ _ _ (by omega), sm_up_n _ _ _ _ (by omega), sm_up_y]
      · rw [sm_up_n _ _ _ _ (by omega), sm_up_n _ _ _ _ (by omega), sm_up_y]
      · rw [sm_up_n _ _ _ _ (by omega), sm_up_n _ _ _ _ (by omega), sm_up_n _ _ _ _ (by omega), sm_up_n _ _ _ _ (by omega), hx, h20]
      · rw [sm_up_n _ _ _ _ (by omega), sm_up_y]
        unfold sm_xn
        rw [if_neg (fun g => h9 ?_)]
        have h1 := Int32.lt_iff_toInt_lt.mp g
        have e9 : (9 : Int32).toInt = 9 := by decide
        have e11 : (11 : Int32).toInt = 11 := by decide
        exact Int32.lt_iff_toInt_lt.mpr (by omega)
      · rw [sm_up_y]
        unfold sm_xv
        rw [if_neg h9]
      · subst g
        exact absurd (by decide) h9
    refine br_c (fun h5 => br_c (fun h0 => ⟨is, nm_e (fin 2 ?_)⟩) (fun h0 => fin0 ?_)) (fun h5 => fin0 ?_)
    · unfold sm_xs
      rw [if_neg h9, if_pos ⟨h5, h0⟩]
    · unfold sm_xs
      rw [if_neg h9, if_neg (fun g => h0 g.2)]
    · unfold sm_xs
      rw [if_neg h9, if_neg (fun g => h5 g.1)]
end
section
/-! older stores, loads, and who may be issued -/
def sm_iss (z : sm_Z) (t u : Nat) : Prop := ¬ sm_isb z u ∧ z 1 (t * 24 + (z 17 u).toNatClampNeg) = 11
theorem sm_w_iss {post : Int32 → Prop} {z : sm_Z} {t u : Nat} (ht : t < 4) (hu : u < 48) (hi : sm_isb z u ∨ ∃ p, p < 24 ∧ z 17 u = nI p) (h1 : sm_iss z t u → post 1) (h0 : ¬ sm_iss z t u → post 0) : wpX_isStore post (sm_tp z) (nI t) (nI u) := by
  have iu := vp_in_nI hu (show 48 < 2 ^ 31 by decide)
  have eu : (nI u).toNatClampNeg = u := nI_clamp (by omega)
  unfold wpX_isStore
  try dsimp only
  rw [eu]
  refine ⟨iu, br_c (fun h => h0 (fun g => g.1 (Or.inr h))) (fun h4 => ⟨iu, br_c (fun h => h0 (fun g => g.1 (Or.inl h))) (fun h1' => ?_)⟩)⟩
  have nb : ¬ sm_isb z u := fun g => g.elim h1' h4
  obtain ⟨p, hp, e17⟩ : ∃ p, p < 24 ∧ z 17 u = nI p := hi.elim (fun g => absurd g nb) id
  have e24 : nI t * 24 + z 17 u = nI (t * 24 + p) := by rw [e17, show (24 : Int32) = nI 24 from rfl, pk_mul, nI_add]
  have ec : (z 17 u).toNatClampNeg = p := by rw [e17, nI_clamp (by omega)]
  rw [e24, nI_clamp (show t * 24 + p < 2 ^ 31 by omega)]
  refine ⟨iu, vp_in_nI (by omega) (by decide), br_c (fun h => h1 ⟨nb, by rw [ec]; exact h⟩) (fun h => h0 (fun g => h ?_))⟩
  have := g.2
  rw [ec] at this
  exact this
theorem sm_osd_loop {post : Int32 → Prop} {z : sm_Z} {t h n k : Nat} (ht : t < 4) (hh : h < 12) (hn : n ≤ 12) (hk : k < n) (c1 : z 15 t = nI h) (c3 : z 16 t = nI n) (hi : ∀ j, j < k → sm_isb z (sm_sl h t j) ∨ ∃ p, p < 24 ∧ z 17 (sm_sl h t j) = nI p)
    (h1 : (∀ j, j < k → sm_iss z t (sm_sl h t j) → z 18 (sm_sl h t j) = 2) → post 1) (h0 : ¬ (∀ j, j < k → sm_iss z t (sm_sl h t j) → z 18 (sm_sl h t j) = 2) → post 0) :
    ∀ (r x : Nat), k - x = r → x ≤ k → (∀ j, j < x → sm_iss z t (sm_sl h t j) → z 18 (sm_sl h t j) = 2) → wX_olderStoresDone_2 post (nI t) (nI (sm_sl h t k)) (z 0 0) (z 0 1) (z 0 2) (z 0 3) (z 0 4) (z 0 5) (z 1) (z 2) (z 3) (z 4) (z 5) (z 6) (z 7) (z 8) (z 9) (z 10) (z 11) (z 12) (z 13) (z 14) (z 15) (z 16) (z 17) (z 18) (z 19) (z 20) (z 21) (z 22) (z 23) (z 24) (z 25) (z 26) (z 27) (z 28) (z 29) (z 30) (z 31) (z 32) (z 33) (z 34) (z 35) (z 36) (z 37) (r + 1) (nI x) := by
  have it := vp_in_nI ht (show 4 < 2 ^ 31 by decide)
  have et : (nI t).toNatClampNeg = t := nI_clamp (by omega)
  intro r
  induction r with
  | zero =>
    intro x hr hx g
    have e : x = k := by omega
    subst e
    refine ⟨it, ?_⟩
    rw [et]
    refine pk_le n x (fun z => absurd z (by omega)) (fun _ => ?_) (hx := c3)
    exact sm_w_slot c1 ht hh (by omega) (br_t rfl (h1 g))
  | succ r ih =>
    intro x hr hx g
    refine ⟨it, ?_⟩
    rw [et]
    refine pk_le n x (fun z => absurd z (by omega)) (fun _ => ?_) (hx := c3)
    have hu := sm_sl_lt (t := t) hh (show x < 12 by omega) ht
    have hs := sm_sl_lt (t := t) hh (show k < 12 by omega) ht
    refine sm_w_slot c1 ht hh (by omega) (br_f (fun e => ?_) ?_)
    · have := sm_sl_inj hh (by omega) (by omega) (sm_nI_inj (by omega) (by omega) e)
      omega
    · refine sm_w_iss ht hu (hi x (by omega)) (fun a => ?_) (fun a => ?_)
      · refine br_f (by decide) ⟨vp_in_nI hu (by decide), ?_⟩
        rw [nI_clamp (show sm_sl h t x < 2 ^ 31 by omega)]
        refine br_c (fun b => nm_r (nI_1 x) (ih (x + 1) (by omega) (by omega) (fun j hj hjs => ?_))) (fun b => h0 (fun d => b (d x (by omega) a)))
        by_cases e : j = x
        · subst e
          exact b
        · exact g j (by omega) hjs
      · refine br_t rfl (nm_r (nI_1 x) (ih (x + 1) (by omega) (by omega) (fun j hj hjs => ?_)))
        by_cases e : j = x
        · subst e
          exact absurd hjs a
        · exact g j (by omega) hjs
theorem sm_nbool (r : Int32) (h : r = 0 ∨ r = 1) : narrow .boolean (.int r) = .int r := by
  rcases h with h | h <;> (subst h; rfl)
/-- whether slot s may be issued -/
def sm_ci (z : sm_Z) (t h k : Nat) : Prop :=
  z 11 (z 24 (sm_sl h t k)).toNatClampNeg ≠ 0 ∧ z 11 (z 25 (sm_sl h t k)).toNatClampNeg ≠ 0 ∧
  (z 1 (t * 24 + (z 17 (sm_sl h t k)).toNatClampNeg) = 10 → ∀ j, j < k → sm_iss z t (sm_sl h t j) → z 18 (sm_sl h t j) = 2)
theorem sm_w_ci {post : Int32 → Prop} {z : sm_Z} {t h n k p : Nat} (ht : t < 4) (hh : h < 12) (hn : n ≤ 12) (hk : k < n) (c1 : z 15 t = nI h) (c3 : z 16 t = nI n) (hi : ∀ j, j < k → sm_isb z (sm_sl h t j) ∨ ∃ p, p < 24 ∧ z 17 (sm_sl h t j) = nI p)
    (hp24 : p < 24) (h17 : z 17 (sm_sl h t k) = nI p) (hA : vp_in (z 24 (sm_sl h t k)) 56) (hB : vp_in (z 25 (sm_sl h t k)) 56)
    (h1 : sm_ci z t h k → post 1) (h0 : ¬ sm_ci z t h k → post 0) : wpX_canIssue post (sm_tp z) (nI (sm_sl h t k)) := by
  have hs := sm_sl_lt (t := t) hh (show k < 12 by omega) ht
  have hs12 := sm_sl_rng (t := t) hh (show k < 12 by omega)
  have is := vp_in_nI hs (show 48 < 2 ^ 31 by decide)
  have es : (nI (sm_sl h t k)).toNatClampNeg = sm_sl h t k := nI_clamp (by omega)
  have e12 : nI (sm_sl h t k) / 12 = nI t := by
    rw [show (12 : Int32) = nI 12 from rfl, pk_div (by omega) (by omega) (by omega)]
    congr 1
    omega
  have e24 : nI t * 24 + z 17 (sm_sl h t k) = nI (t * 24 + p) := by rw [h17, show (24 : Int32) = nI 24 from rfl, pk_mul, nI_add]
  have ec : (z 17 (sm_sl h t k)).toNatClampNeg = p := by rw [h17, nI_clamp (by omega)]
  unfold wpX_canIssue
  try dsimp only
  rw [es]
  refine ⟨is, hA, br_c (fun g => h0 (fun c => c.1 g)) (fun gA => ⟨is, hB, br_c (fun g => h0 (fun c => c.2.1 g)) (fun gB => ⟨by decide, nm_r e12 ⟨is, ?_⟩⟩)⟩)⟩
  rw [e24, nI_clamp (show t * 24 + p < 2 ^ 31 by omega)]
  refine ⟨vp_in_nI (by omega) (by decide), br_c (fun g => ?_) (fun g => h1 ⟨gA, gB, fun e => ?_⟩)⟩
  · refine ⟨k + 1, sm_osd_loop ht hh hn hk c1 c3 hi (fun d => ⟨sm_nbool 1 (Or.inr rfl), h1 ⟨gA, gB, fun _ => d⟩⟩) (fun d => ⟨sm_nbool 0 (Or.inl rfl), h0 (fun c => d (c.2.2 ?_))⟩) k 0 (by omega) (by omega) (fun j hj => absurd hj (by omega))⟩
    rw [ec]
    exact g
  · rw [ec] at e
    exact absurd e g
/-- how an older entry's store shows in the chain's memory -/
def sm_mrl (z : sm_Z) (t u : Nat) (M M' : Nat → Int32) (a : Nat) : Prop :=
  (¬ sm_iss z t u → M' a = M a) ∧ (sm_iss z t u → z 20 u = 0 → z 27 u = nI a → M' a = z 26 u) ∧ (sm_iss z t u → (z 20 u ≠ 0 ∨ z 27 u ≠ nI a) → M' a = M a)
theorem sm_ent_mem {z : sm_Z} {t u a : Nat} {R M P R' M' P' : Nat → Int32} (h : sm_ent z t u R M P R' M' P') (ha : a < 16) (hd : sm_iss z t u → z 18 u = 2) : sm_mrl z t u M M' a := by
  obtain ⟨h30, ⟨hb, hR, hM, hP⟩ | ⟨p, o, g', m, h17, hp24, hsz, ho, hg, hm, ho0, hA, hB, hw1, hw2, hR, hM, hsta⟩⟩ := h
  · have ib : sm_isb z u := hb.2.2.elim (fun x => Or.inr x.1) (fun x => Or.inl x.1)
    rw [hM]
    exact ⟨fun _ => rfl, fun g => absurd ib g.1, fun g => absurd ib g.1⟩
  · have e17 : (z 17 u).toNatClampNeg = p := by rw [h17, nI_clamp (by omega)]
    by_cases e11 : o = 11
    · by_cases st : z 18 u = 2
      · obtain ⟨rs1, rs2, rs3, rs4⟩ : sm_res z u o g' m (nI p) R M := by
          rcases hsta with ⟨x1, _⟩ | ⟨x1, _⟩ | ⟨_, x2, _⟩
          · rw [st] at x1; exact absurd x1 (by decide)
          · rw [st] at x1; exact absurd x1 (by decide)
          · exact x2
        have hx := sm_xs_c o (R (sm_ra g')) (R (sm_rb g')) m
        have iss : sm_iss z t u := ⟨fun b => b.elim (fun b => hx.1 (by rw [← rs1]; exact b)) (fun b => hx.2 (by rw [← rs1]; exact b)), by rw [e17, ho]; exact e11⟩
        have a27 := rs4 e11
        have a26 := rs3 (Or.inr e11)
        refine ⟨fun g => absurd iss g, fun _ s0 s1 => ?_, fun _ s0 => ?_⟩
        · rw [rs1] at s0
          rw [hM]
          unfold sm_M1
          rw [if_pos ⟨e11, s0⟩, ← a27, s1, nI_clamp (by omega)]
          unfold sm_u16
          try dsimp only
          rw [if_pos (Nat.mod_eq_of_lt ha), a26]
          subst e11
          unfold sm_xs at s0
          unfold sm_xv
          rw [if_pos (by decide), if_neg (by decide)] at s0
          rw [if_pos (by decide), if_neg (by decide)]
          by_cases bd : sm_bad (R (sm_ra g') + m)
          · rw [if_pos bd] at s0
            exact absurd s0 (by decide)
          · rw [if_neg bd, if_pos rfl]
        · rw [hM]
          unfold sm_M1
          by_cases s1 : sm_xs o (R (sm_ra g')) (R (sm_rb g')) m = 0
          · have s2 : z 27 u ≠ nI a := s0.elim (fun g => absurd (by rw [rs1]; exact s1) g) id
            rw [if_pos ⟨e11, s1⟩]
            unfold sm_u16
            try dsimp only
            rw [Nat.mod_eq_of_lt ha]
            rw [if_neg (fun e => s2 ?_)]
            have bd : ¬ sm_bad (R (sm_ra g') + m) := fun bd => by
              subst e11
              unfold sm_xs at s1
              rw [if_pos (by decide), if_neg (by decide), if_pos bd] at s1
              exact absurd s1 (by decide)
            obtain ⟨a', ha', ea'⟩ := nI_of2 (M := 15) (n := 15) (by decide) (fun h => bd (Or.inl h)) (Classical.byContradiction fun h => bd (Or.inr h))
            rw [a27, ea']
            rw [ea', nI_clamp (by omega)] at e
            rw [e]
          · rw [if_neg (fun g => s1 g.2)]
      · have nis : ¬ sm_iss z t u := fun g => st (hd g)
        exact absurd ⟨fun b => by
          have hx := sm_xs_c o (R (sm_ra g')) (R (sm_rb g')) m
          rcases hsta with ⟨_, x2, _⟩ | ⟨_, x2, _⟩ | ⟨x1, _⟩
          · rcases b with b | b <;> (rw [x2] at b; exact absurd b (by decide))
          · rcases b with b | b
            · rw [x2.1] at b
              exact hx.1 b
            · rw [x2.1] at b
              exact hx.2 b
          · exact st x1, by rw [e17, ho]; exact e11⟩ nis
    · have nis : ¬ sm_iss z t u := fun g => e11 (by
        have := g.2
        rw [e17, ho] at this
        exact this)
      refine ⟨fun _ => ?_, fun g => absurd g nis, fun g => absurd g nis⟩
      rw [hM]
      unfold sm_M1
      rw [if_neg (fun g => e11 g.1)]
theorem sm_ld_loop {post : Int32 → Prop} {z : sm_Z} {t h n k a : Nat} {M : Nat → Nat → Int32} (ht : t < 4) (hh : h < 12) (hn : n ≤ 12) (hk : k < n) (ha : a < 16) (c1 : z 15 t = nI h) (c3 : z 16 t = nI n) (hi : ∀ j, j < k → sm_isb z (sm_sl h t j) ∨ ∃ p, p < 24 ∧ z 17 (sm_sl h t j) = nI p)
    (hm : ∀ j, j < k → sm_mrl z t (sm_sl h t j) (M j) (M (j + 1)) a) (hp : post (M k a)) :
    ∀ (r x : Nat), k - x = r → x ≤ k → wX_load_16 post (nI t) (nI (sm_sl h t k)) (nI a) (z 0 0) (z 0 1) (z 0 2) (z 0 3) (z 0 4) (z 0 5) (z 1) (z 2) (z 3) (z 4) (z 5) (z 6) (z 7) (z 8) (z 9) (z 10) (z 11) (z 12) (z 13) (z 14) (z 15) (z 16) (z 17) (z 18) (z 19) (z 20) (z 21) (z 22) (z 23) (z 24) (z 25) (z 26) (z 27) (z 28) (z 29) (z 30) (z 31) (z 32) (z 33) (z 34) (z 35) (z 36) (z 37) (r + 1) (M x a) (nI x) := by
  have it := vp_in_nI ht (show 4 < 2 ^ 31 by decide)
  have et : (nI t).toNatClampNeg = t := nI_clamp (by omega)
  intro r
  induction r with
  | zero =>
    intro x hr hx
    have e : x = k := by omega
    subst e
    refine ⟨it, ?_⟩
    rw [et]
    refine pk_le n x (fun z => absurd z (by omega)) (fun _ => ?_) (hx := c3)
    exact sm_w_slot c1 ht hh (by omega) (br_t rfl hp)
  | succ r ih =>
    intro x hr hx
    refine ⟨it, ?_⟩
    rw [et]
    refine pk_le n x (fun z => absurd z (by omega)) (fun _ => ?_) (hx := c3)
    have hu := sm_sl_lt (t := t) hh (show x < 12 by omega) ht
    have hs := sm_sl_lt (t := t) hh (show k < 12 by omega) ht
    have iu := vp_in_nI hu (show 48 < 2 ^ 31 by decide)
    obtain ⟨m1, m2, m3⟩ := hm x (by omega)
    have nxt := ih (x + 1) (by omega) (by omega)
    refine sm_w_slot c1 ht hh (by omega) (br_f (fun e => ?_) ?_)
    · have := sm_sl_inj hh (by omega) (by omega) (sm_nI_inj (by omega) (by omega) e)
      omega
    · refine sm_w_iss ht hu (hi x (by omega)) (fun b => ?_) (fun b => ?_)
      · refine br_f (by decide) ⟨iu, ?_⟩
        rw [nI_clamp (show sm_sl h t x < 2 ^ 31 by omega)]
        refine br_c (fun b2 => ⟨iu, br_c (fun b3 => ⟨iu, nm_e (nm_r (nI_1 x) ?_)⟩) (fun b3 => nm_r (nI_1 x) ?_)⟩) (fun b2 => nm_r (nI_1 x) ?_)
        · rw [← m2 b b2 b3]
          exact nxt
        · rw [← m3 b (Or.inr b3)]
          exact nxt
        · rw [← m3 b (Or.inl b2)]
          exact nxt
      · refine br_t rfl (nm_r (nI_1 x) ?_)
        rw [← m1 b]
        exact nxt
theorem sm_w_load {post : Int32 → Prop} {z : sm_Z} {t h n k a : Nat} {M : Nat → Nat → Int32} (ht : t < 4) (hh : h < 12) (hn : n ≤ 12) (hk : k < n) (ha : a < 16) (c1 : z 15 t = nI h) (c3 : z 16 t = nI n) (hi : ∀ j, j < k → sm_isb z (sm_sl h t j) ∨ ∃ p, p < 24 ∧ z 17 (sm_sl h t j) = nI p)
    (h0 : z 5 (t * 16 + a) = M 0 a) (hm : ∀ j, j < k → sm_mrl z t (sm_sl h t j) (M j) (M (j + 1)) a) (hp : post (M k a)) : wpX_load post (sm_tp z) (nI t) (nI (sm_sl h t k)) (nI a) := by
  have e16 : nI t * 16 + nI a = nI (t * 16 + a) := by rw [show (16 : Int32) = nI 16 from rfl, pk_mul, nI_add]
  unfold wpX_load
  try dsimp only
  rw [e16, nI_clamp (show t * 16 + a < 2 ^ 31 by omega), h0]
  exact ⟨vp_in_nI (by omega) (by decide), nm_e ⟨k + 1, sm_ld_loop ht hh hn hk ha c1 c3 hi hm hp k 0 (by omega) (by omega)⟩⟩
end
section
/-! the issue stage -/
theorem sm_ent_e {z z' : sm_Z} {t s p : Nat} {o g m : Int32} {R M P R' M' P' : Nat → Int32} (h : sm_ent z t s R M P R' M' P') (h18 : z 18 s = 0) (h17 : z 17 s = nI p) (hp24 : p < 24) (ho : z 1 (t * 24 + p) = o) (hg : z 2 (t * 24 + p) = g) (hm : z 3 (t * 24 + p) = m)
    (hr : ∀ j, 1 ≤ j → j ≤ 4 → z' j = z j) (h11 : z' 11 = z 11) (x : sm_exr z z' s o (R (sm_ra g)) (R (sm_rb g)) m (nI p) M) : sm_ent z' t s R M P R' M' P' := by
  obtain ⟨f, e18, e19, e20, e28, e26, e27⟩ := x
  obtain ⟨h30, hb | ⟨p', o', g', m', h17', hp', hsz, ho', hg', hm', ho0, hA, hB, hw1, hw2, hR, hM, hsta⟩⟩ := h
  · have := hb.1.1
    rw [h18] at this
    exact absurd this (by decide)
  have epp : p' = p := sm_nI_inj (by omega) (by omega) (by rw [← h17', h17])
  subst epp
  rw [ho] at ho'; rw [hg] at hg'; rw [hm] at hm'
  subst ho' hg' hm'
  have f17 := f 17 s (by omega)
  have f21 := f 21 s (by omega)
  have f22 := f 22 s (by omega)
  have f23 := f 23 s (by omega)
  have f24 := f 24 s (by omega)
  have f25 := f 25 s (by omega)
  have f30 := f 30 s (by omega)
  have x3 : sm_wr o → z 11 (z 22 s).toNatClampNeg = 0 := by
    rcases hsta with ⟨_, _, x3⟩ | ⟨x1, _⟩ | ⟨x1, _⟩
    · exact x3
    · rw [h18] at x1; exact absurd x1 (by decide)
    · rw [h18] at x1; exact absurd x1 (by decide)
  refine ⟨by rw [f30]; exact h30, Or.inr ⟨p', o, g, m, by rw [f17]; exact h17', hp', by rw [hr 4 (by omega) (by omega)]; exact hsz, by rw [hr 1 (by omega) (by omega)]; exact ho, by rw [hr 2 (by omega) (by omega)]; exact hg, by rw [hr 3 (by omega) (by omega)]; exact hm, ho0, by rw [f24]; exact hA, by rw [f25]; exact hB, by rw [f21, f23, f22]; exact hw1, by rw [f21]; exact hw2, hR, hM, Or.inr (Or.inl ⟨e18, ⟨e20, e28, e26, e27⟩, by rw [h11, f22]; exact x3, e19⟩)⟩⟩
theorem sm_ent_n {z : sm_Z} {t s : Nat} {R M P R' M' P' : Nat → Int32} (h : sm_ent z t s R M P R' M' P') : sm_isb z s ∨ ∃ p, p < 24 ∧ z 17 s = nI p := by
  obtain ⟨h30, hb | ⟨p, o, g, m, h17, hp24, _⟩⟩ := h
  · exact Or.inl (hb.1.2.2.elim (fun x => Or.inr x.1) (fun x => Or.inl x.1))
  · exact Or.inr ⟨p, hp24, h17⟩
def sm_mI (T W V ex : Nat) (F : Nat → sm_A) (z0 : sm_Z) (H N : Nat → Nat) (R M P : Nat → Nat → Nat → Int32) (own : Nat → Nat) (ft q c i : Nat) (z : sm_Z) : Prop :=
  sm_prm T W V z ∧ sm_cor T ex z H N R M P own ft q ∧ (∀ t, t < T → sm_ctl z t (H t) (N t) (R t 0) (M t 0) (F t)) ∧
  (∀ j x, ¬ (18 ≤ j ∧ j ≤ 20 ∨ 26 ≤ j ∧ j ≤ 28) → z j x = z0 j x) ∧
  (∀ s, s < 48 → (z 18 s = z0 18 s ∧ z 19 s = z0 19 s) ∨ (z0 18 s = 0 ∧ z 18 s = 1 ∧ ∃ τ, 1 ≤ τ ∧ τ ≤ 4 ∧ z 19 s = nI τ)) ∧
  (∀ j, i ≤ j → j < q → z 18 (z0 31 j).toNatClampNeg = 0) ∧
  (∀ j t, j < i → t < T → 0 < N t → z0 31 j = nI (sm_sl (H t) t 0) → z 18 (sm_sl (H t) t 0) ≠ 0) ∧
  (0 < c → ∃ j, j < i ∧ z 18 (z0 31 j).toNatClampNeg ≠ 0)
theorem sm_issS_end {post : St2 → Prop} {T W V ex : Nat} {F : Nat → sm_A} {m : Nat → Nat} {z0 z : sm_Z} {H N : Nat → Nat} {R M P : Nat → Nat → Nat → Int32} {own : Nat → Nat} {ft q c i : Nat} (g : sm_mI T W V ex F z0 H N R M P own ft q c i z) (hi : i ≤ q)
    (hm : ∀ t, t < T → sm_rk 2 2 6 23 z0 t (H t) (N t) (m t)) (hx : i = q ∨ 0 < c)
    (hp : ∀ z' : sm_Z, sm_K T W V ex F z' H N → sm_stc z0 z' → (∀ t, t < T → sm_rk 2 2 7 23 z' t (H t) (N t) (m t)) → post (sm_tp z')) : wX_issueStage_49 post (z 0 0) (z 0 1) (z 0 2) (z 0 3) (z 0 4) (z 0 5) (z 1) (z 2) (z 3) (z 4) (z 5) (z 6) (z 7) (z 8) (z 9) (z 10) (z 11) (z 12) (z 13) (z 14) (z 15) (z 16) (z 17) (z 18) (z 19) (z 20) (z 21) (z 22) (z 23) (z 24) (z 25) (z 26) (z 27) (z 28) (z 29) (z 30) (z 31) (z 32) (z 33) (z 34) (z 35) (z 36) (z 37) := by
  obtain ⟨g1, g2, g3, g4, g5, g6, g7, g8⟩ := g
  have cc := g2
  obtain ⟨hT, hex, hth, hrg, hft, hcn, hlv, hqq, q1, q2, q3, q4⟩ := cc
  unfold wX_issueStage_49
  refine sm_w_purge hqq q1 q2 q3 (fun z' k f h4 hpq => ?_)
  obtain ⟨k1, k2⟩ := sm_k_pq g2 f h4 hpq
  refine hp z' ⟨R, M, P, own, ft, k, sm_prm_fr (fun i hi => f 0 i (by omega) (by omega)) (funext fun i => f 4 i (by omega) (by omega)) g1, k1, k2, fun t ht => sm_ctl_fr (fun j a1 a2 => funext fun i => f j i (by omega) (by omega)) (fun j a1 a2 a3 => f j t (by omega) (by omega)) (fun j k' hk' hj => f j _ (by omega) (by omega)) (g3 t ht)⟩
    (fun j a1 a2 => funext fun i => by rw [f j i (by omega) (by omega), g4 j i (by omega)]) (fun t ht => ?_)
  obtain ⟨c1, c2, c3, c4, c5, c6, c7, c8, c9⟩ := hth t ht
  have hs48 := sm_sl_lt (t := t) c2 (show 0 < 12 by omega) (by omega)
  have f36 : z' 36 t = z0 36 t := by rw [f 36 t (by omega) (by omega), g4 36 t (by omega)]
  have f37 : z' 37 t = z0 37 t := by rw [f 37 t (by omega) (by omega), g4 37 t (by omega)]
  have f18 := f 18 (sm_sl (H t) t 0) (by omega) (by omega)
  have f19 := f 19 (sm_sl (H t) t 0) (by omega) (by omega)
  have fs := g5 _ hs48
  unfold sm_rk
  rw [f36, f37, f18, f19]
  rcases hm t ht with h | ⟨qa, d1, d2, d3 | ⟨d3, ⟨d4, d5⟩ | ⟨d4, τ, d5, d6, d7, d8⟩ | ⟨d4, i0, d5, d6⟩⟩⟩
  · exact Or.inl h
  · exact Or.inr ⟨qa, d1, d2, Or.inl d3⟩
  · refine Or.inr ⟨qa, d1, d2, Or.inr ⟨d3, Or.inl ⟨?_, d5⟩⟩⟩
    rcases fs with ⟨a1, a2⟩ | ⟨a1, _⟩
    · rw [a1]; exact d4
    · rw [d4] at a1; exact absurd a1 (by decide)
  · refine Or.inr ⟨qa, d1, d2, Or.inr ⟨d3, Or.inr (Or.inl ⟨?_, τ, ?_, d6, d7, d8⟩)⟩⟩
    · rcases fs with ⟨a1, a2⟩ | ⟨a1, _⟩
      · rw [a1]; exact d4
      · rw [d4] at a1; exact absurd a1 (by decide)
    · rcases fs with ⟨a1, a2⟩ | ⟨a1, _⟩
      · rw [a2]; exact d5
      · rw [d4] at a1; exact absurd a1 (by decide)
  · rcases fs with ⟨a1, a2⟩ | ⟨_, a1, τ, a2, a3, a4⟩
    · rw [d4] at a1
      obtain ⟨q', p1, p2, p3, p4⟩ := d5
      have e04 : z 0 4 = z0 0 4 := g4 0 4 (by omega)
      have eq' : q' = q := sm_nI_inj (by omega) (by omega) (by rw [← p1, ← e04]; exact hqq)
      subst eq'
      have e31 : ∀ x, z 31 x = z0 31 x := fun x => g4 31 x (by omega)
      have hi0 : i ≤ i0 := by
        rcases Nat.lt_or_ge i0 i with h | h
        · exact absurd a1 (g7 i0 t h ht d3 p4)
        · exact h
      have hc : 0 < c := hx.elim (fun e => by omega) id
      obtain ⟨jj, j1, j2⟩ := g8 hc
      obtain ⟨jn, n1, n2, n3, n4⟩ := hpq.2.2.2.1 i0 p2 (by
        unfold sm_kp
        rw [e31, p4, nI_clamp (by omega), (c9 0 d3).1]
        exact ⟨by decide, a1⟩)
      have n5 := n4 ⟨jj, by omega, fun kp => j2 (by
        have := kp.2
        rw [e31] at this
        exact this)⟩
      refine Or.inr ⟨qa, d1, d2, Or.inr ⟨d3, Or.inr (Or.inr ⟨a1, jn, ⟨k, h4, n1, by have := hpq.1; omega, ?_⟩, by omega⟩)⟩⟩
      rw [n3, e31]
      exact p4
    · exact Or.inr ⟨qa, d1, d2, Or.inr ⟨d3, Or.inr (Or.inl ⟨a1, τ, a4, a2, a3, by omega⟩)⟩⟩
theorem sm_issS_loop {post : St2 → Prop} {T W V ex : Nat} {F : Nat → sm_A} {m : Nat → Nat} {z0 : sm_Z} {H N : Nat → Nat} {R M P : Nat → Nat → Nat → Int32} {own : Nat → Nat} {ft q : Nat}
    (hqs0 : sm_qs z0 q) (hm : ∀ t, t < T → sm_rk 2 2 6 23 z0 t (H t) (N t) (m t))
    (hp : ∀ z' : sm_Z, sm_K T W V ex F z' H N → sm_stc z0 z' → (∀ t, t < T → sm_rk 2 2 7 23 z' t (H t) (N t) (m t)) → post (sm_tp z')) :
    ∀ (r c i : Nat) (z : sm_Z), q - i = r → i ≤ q → c ≤ i → sm_mI T W V ex F z0 H N R M P own ft q c i z → wX_issueStage_4 post (r + 1) (nI c) (nI i) (z 0 0) (z 0 1) (z 0 2) (z 0 3) (z 0 4) (z 0 5) (z 1) (z 2) (z 3) (z 4) (z 5) (z 6) (z 7) (z 8) (z 9) (z 10) (z 11) (z 12) (z 13) (z 14) (z 15) (z 16) (z 17) (z 18) (z 19) (z 20) (z 21) (z 22) (z 23) (z 24) (z 25) (z 26) (z 27) (z 28) (z 29) (z 30) (z 31) (z 32) (z 33) (z 34) (z 35) (z 36) (z 37) := by
  intro r
  induction r with
  | zero =>
    intro c i z hr hi hc g
    have q16 := g.2.1.2.2.2.2.2.2.2.2.1
    refine br_t ?_ (sm_issS_end g hi hm (Or.inl (by omega)) hp)
    rw [g.2.1.2.2.2.2.2.2.2.1, nI_leI (by omega) (by omega)]
    omega
  | succ r ih =>
    intro c i z hr hi hc g
    have b1 : q - (i + 1) = r := by omega
    have b2 : i + 1 ≤ q := by omega
    have b3 : i < q := by omega
    have b4 : c + 1 ≤ i + 1 := by omega
    have b5 : c ≤ i + 1 := by omega
    have gg := g
    obtain ⟨g1, g2, g3, g4, g5, g6, g7, g8⟩ := g
    have cc := g2
    obtain ⟨hT, hex, hth, hrg, hft, hcn, hlv, hqq, q1, q2, q3, q4⟩ := cc
    have hW := g1.2.2.2
    have e31 : ∀ x, z 31 x = z0 31 x := fun x => g4 31 x (by omega)
    refine br_f ?_ (pk_le W c (fun h => sm_issS_end gg hi hm (Or.inr (by omega)) hp) (fun h => ⟨vp_in_nI (by omega) (by decide), ?_⟩) (hx := hW.1))
    · rw [hqq, nI_leI (by omega) (by omega)]
      omega
    rw [nI_clamp (show i < 2 ^ 31 by omega)]
    have hin := q2 i (by omega)
    have hc48 := sm_cl_lt hin
    have h30 : z 30 (z 31 i).toNatClampNeg ≠ 0 := by
      rw [g4 30 _ (by omega), e31]
      exact (hqs0 i (by omega)).1
    have h18 : z 18 (z 31 i).toNatClampNeg = 0 := by
      rw [e31]
      exact g6 i (Nat.le_refl i) (by omega)
    obtain ⟨t, k, ht, hk, hs⟩ := hlv _ hc48 h30
    have e3 : z 31 i = nI (sm_sl (H t) t k) := by rw [← hs, sm_cl_nI hin (by decide)]
    rw [hs] at h18
    obtain ⟨c1, c2, c3, c4, c5, c6, c7, c8, c9⟩ := hth t ht
    have ce := c9 k hk
    have hs48 := sm_sl_lt (t := t) c2 (show k < 12 by omega) (by omega)
    have hs12 := sm_sl_rng (t := t) c2 (show k < 12 by omega)
    have hin' : ∀ j, j < k → sm_isb z (sm_sl (H t) t j) ∨ ∃ p, p < 24 ∧ z 17 (sm_sl (H t) t j) = nI p := fun j hj => sm_ent_n (c9 j (by omega))
    have ce0 := ce
    obtain ⟨h30', hb | ⟨p, o, g', mm, h17, hp24, hsz, ho, hg, hmm, ho0, hA, hB, hw1, hw2, hR, hM, hsta⟩⟩ := ce
    · have := hb.1.1
      rw [h18] at this
      exact absurd this (by decide)
    have mA := sm_map g2 ht k (by omega) (sm_ra g') (sm_ra_lt g')
    have mB := sm_map g2 ht k (by omega) (sm_rb g') (sm_rb_lt g')
    have h20 : z 20 (sm_sl (H t) t k) = 0 := by
      rcases hsta with ⟨_, x2, _⟩ | ⟨x1, _⟩ | ⟨x1, _⟩
      · exact x2
      · rw [h18] at x1; exact absurd x1 (by decide)
      · rw [h18] at x1; exact absurd x1 (by decide)
    refine nm_r e3 (sm_w_ci (p := p) (by omega) c2 c4 hk c1 c3 hin' hp24 h17 (by rw [hA]; exact mA.1) (by rw [hB]; exact mB.1) (fun ci => br_f (by decide) ?_) (fun ci => br_t rfl (nm_r (nI_1 i) ?_)))
    · -- it is issued
      obtain ⟨ciA, ciB, ciS⟩ := ci
      rw [hA] at ciA
      rw [hB] at ciB
      refine sm_w_exec (t := t) (p := p) (o := o) (m := mm) (L := M t k) (a := R t k (sm_ra g')) (b := R t k (sm_rb g')) (by omega) hs12 hp24 h17 ho hmm (by rw [hA]; exact mA.1) (by rw [hB]; exact mB.1) (by rw [hA]; exact mA.2 ciA) (by rw [hB]; exact mB.2 ciB) h20 (fun e10 x post' w hx fw hpp => ?_) (fun z' x => nm_r (nI_1 c) (nm_r (nI_1 i) ?_))
      · have hst := ciS (by rw [h17, nI_clamp (by omega), ho]; exact e10)
        have ne : ∀ j, j < k → sm_sl (H t) t j ≠ sm_sl (H t) t k := fun j hj e => by
          have := sm_sl_inj c2 (by omega) (by omega) e
          omega
        have ibw : ∀ j, j < k → (sm_isb w (sm_sl (H t) t j) ↔ sm_isb z (sm_sl (H t) t j)) := fun j hj => by
          unfold sm_isb
          rw [fw 20 _ (by omega)]
        have isw : ∀ j, j < k → (sm_iss w t (sm_sl (H t) t j) ↔ sm_iss z t (sm_sl (H t) t j)) := fun j hj => by
          unfold sm_iss
          rw [ibw j hj, fw 1 _ (by omega), fw 17 _ (by omega)]
        refine sm_w_load (M := M t) (n := N t) (by omega) c2 c4 hk hx (by rw [fw 15 t (by omega)]; exact c1) (by rw [fw 16 t (by omega)]; exact c3) (fun j hj => ?_) ?_ (fun j hj => ?_) hpp
        · rw [ibw j hj, fw 17 _ (by omega)]
          exact hin' j hj
        · rw [fw 5 _ (by omega), c6]
          try dsimp only
          rw [Nat.mod_eq_of_lt hx]
        · have mr := sm_ent_mem (c9 j (by omega)) hx (hst j hj)
          have := ne j hj
          unfold sm_mrl at *
          rw [isw j hj, fw 20 _ (by omega), fw 27 _ (by omega), fw 26 _ (by omega)]
          exact mr
      · have xx := x
        obtain ⟨f, x18, x19, x20, x28, x26, x27⟩ := x
        have r11 : z' 11 = z 11 := funext fun y => f 11 y (by omega)
        have rC : ∀ j, 1 ≤ j → j ≤ 4 → z' j = z j := fun j a1 a2 => funext fun y => f j y (by omega)
        have ce' := sm_ent_e ce0 h18 h17 hp24 ho hg hmm rC r11 xx
        have nb' := (sm_ent_nb ce' (by rw [x18]; decide)).1
        have nb := (sm_ent_nb ce0 (by rw [h18]; decide)).1
        have hnh : ∀ j, j < q → j ≠ i → (z0 31 j).toNatClampNeg ≠ sm_sl (H t) t k := fun j hj hne e => by
          have v1 := q2 j hj
          rw [← e31] at e
          have : z 31 j = z 31 i := by rw [e3, ← e, sm_cl_nI v1 (by decide)]
          rcases Nat.lt_or_ge j i with h | h
          · exact q3 j i h b3 this
          · exact q3 i j (by omega) hj this.symm
        refine ih (c + 1) (i + 1) z' b1 b2 b4 ⟨sm_prm_fr (fun y hy => f 0 y (by omega)) (rC 4 (by omega) (by omega)) g1, ?_, fun t' ht' => ?_, fun j y hj => ?_, fun s hs' => ?_, fun j h1 h2 => ?_, fun j t' h1 h2 h3 h4 => ?_, fun _ => ⟨i, by omega, ?_⟩⟩
        · refine sm_k_one (p := 99) g2 ht hk rfl (sm_p0_none hrg) (fun y hy => ?_) (fun j y a1 a2 a3 a4 a5 => f j y (by omega)) (by rw [x18]; decide) ce'
          have := sm_cl_lt (hrg.2.1 t y ht hy).1
          omega
        · refine sm_ctl_fr2 rC (fun j a1 a2 a3 => f j t' (by omega)) (fun k' hk' => f 17 _ (by omega)) (fun k' hk' => ?_) (fun k' hk' => ?_) (g3 t' ht')
          · unfold sm_nx
            by_cases e : sm_sl (H t') t' k' = sm_sl (H t) t k
            · rw [e, x18, h18, if_neg (by decide), if_neg (by decide), f 29 _ (by omega)]
            · rw [f 18 _ (by omega), f 28 _ (by omega), f 29 _ (by omega)]
          · by_cases e : sm_sl (H t') t' k' = sm_sl (H t) t k
            · rw [e]
              exact ⟨fun h => absurd h nb', fun h => absurd h nb⟩
            · unfold sm_isb
              rw [f 20 _ (by omega)]
        · rw [f j y (by omega), g4 j y hj]
        · by_cases e : s = sm_sl (H t) t k
          · subst e
            right
            refine ⟨?_, x18, x19⟩
            rcases g5 _ hs48 with ⟨a1, _⟩ | ⟨_, a1, _⟩
            · rw [← a1]; exact h18
            · rw [h18] at a1; exact absurd a1 (by decide)
          · rw [f 18 s (by omega), f 19 s (by omega)]
            exact g5 s hs'
        · rw [f 18 _ (by have := hnh j h2 (by omega); omega)]
          exact g6 j (by omega) h2
        · by_cases e : sm_sl (H t') t' 0 = sm_sl (H t) t k
          · rw [e, x18]
            decide
          · rw [f 18 _ (by omega)]
            by_cases e' : j = i
            · subst e'
              rw [← e31, e3] at h4
              obtain ⟨_, d2, _, d4, _⟩ := hth t' h2
              have := sm_sl_lt (t := t') d2 (show 0 < 12 by omega) (by omega)
              exact absurd (sm_nI_inj (by omega) (by omega) h4).symm e
            · exact g7 j t' (by omega) h2 h3 h4
        · rw [← e31, hs, x18]
          decide
    · -- it waits on
      refine ih c (i + 1) z b1 b2 b5 ⟨g1, g2, g3, g4, g5, fun j h1 h2 => g6 j (by omega) h2, fun j t' h1 h2 h3 h4 => ?_, fun h => ?_⟩
      · by_cases e' : j = i
        · subst e'
          rw [← e31, e3] at h4
          obtain ⟨d1, d2, d3, d4, d5, d6, d7, d8, d9⟩ := hth t' h2
          have l1 := sm_sl_lt (t := t') d2 (show 0 < 12 by omega) (by omega)
          have e4 := sm_nI_inj (by omega) (by omega) h4
          have et := sm_sl_thr c2 d2 (by omega) (by omega) e4
          subst et
          have ek := sm_sl_inj c2 (by omega) (by omega) e4
          subst ek
          refine absurd ?_ ci
          refine ⟨?_, ?_, fun _ j hj => absurd hj (by omega)⟩
          · rw [hA, c7]
            try dsimp only
            rw [(hrg.2.1 t (sm_ra g' % 8) ht (Nat.mod_lt _ (by decide))).2.2]
            decide
          · rw [hB, c7]
            try dsimp only
            rw [(hrg.2.1 t (sm_rb g' % 8) ht (Nat.mod_lt _ (by decide))).2.2]
            decide
        · exact g7 j t' (by omega) h2 h3 h4
      · obtain ⟨j, j1, j2⟩ := g8 h
        exact ⟨j, by omega, j2⟩
theorem sm_w_issS {post : St2 → Prop} {T W V ex : Nat} {F : Nat → sm_A} {m : Nat → Nat} {z : sm_Z} {H N : Nat → Nat} (k : sm_K T W V ex F z H N) (hm : ∀ t, t < T → sm_rk 2 2 6 23 z t (H t) (N t) (m t))
    (hp : ∀ z' : sm_Z, sm_K T W V ex F z' H N → sm_stc z z' → (∀ t, t < T → sm_rk 2 2 7 23 z' t (H t) (N t) (m t)) → post (sm_tp z')) : wpX_issueStage post (sm_tp z) := by
  obtain ⟨R, M, P, own, ft, q, g1, g2, g3, g4⟩ := k
  refine ⟨q + 1, sm_issS_loop (R := R) (M := M) (P := P) (own := own) (ft := ft) (q := q) g3 hm hp q 0 0 z (by omega) (by omega) (by omega) ⟨g1, g2, g4, fun _ _ _ => rfl, fun _ _ => Or.inl ⟨rfl, rfl⟩, fun j _ h => (g3 j h).2, fun j t h => absurd h (by omega), fun h => absurd h (by omega)⟩⟩
end
section
/-! an entry is fetched -/
def sm_cf (V : Nat) (z : sm_Z) (t n q ft : Nat) : Prop := z 36 t ≠ 0 ∧ z 33 t = 0 ∧ n < V ∧ q < 16 ∧ 0 < ft
theorem sm_w_cf {post : Int32 → Prop} {V : Nat} {z : sm_Z} {t n q ft : Nat} (ht : t < 4) (hV : V ≤ 12) (hn : n ≤ 12) (hq : q ≤ 16) (hf : ft ≤ 56) (h02 : z 0 2 = nI V) (h16 : z 16 t = nI n) (h04 : z 0 4 = nI q) (h03 : z 0 3 = nI ft)
    (h1 : sm_cf V z t n q ft → post 1) (h0 : ¬ sm_cf V z t n q ft → post 0) : wpX_canFetch post (sm_tp z) (nI t) := by
  have it := vp_in_nI ht (show 4 < 2 ^ 31 by decide)
  have et : (nI t).toNatClampNeg = t := nI_clamp (by omega)
  unfold wpX_canFetch
  try dsimp only
  rw [et]
  refine ⟨it, br_c (fun g => h0 (fun c => c.1 g)) (fun ga => ⟨it, br_c (fun gb => ⟨it, pk_le V n (fun g => h0 (fun c => ?_)) (fun g => pk_le 16 q (fun g1 => h0 (fun c => ?_)) (fun g1 => pk_le ft 0 (fun g2 => h0 (fun c => ?_)) (fun g2 => h1 ⟨ga, gb, g, g1, g2⟩) (hx := h03)) (hy := h04)) (hx := h02) (hy := h16)⟩) (fun gb => h0 (fun c => gb c.2.1))⟩)⟩
  · have := c.2.2.1
    omega
  · have := c.2.2.2.1
    omega
  · have := c.2.2.2.2
    omega
def sm_ex (R : Nat → Nat → Nat → Int32) (t k : Nat) (v : Nat → Int32) : Nat → Nat → Nat → Int32 := fun t' k' => if t' = t ∧ k' = k then v else R t' k'
theorem sm_ex_y (R : Nat → Nat → Nat → Int32) (t k : Nat) (v : Nat → Int32) : sm_ex R t k v t k = v := if_pos ⟨rfl, rfl⟩
theorem sm_ex_n (R : Nat → Nat → Nat → Int32) {t k t' k' : Nat} (v : Nat → Int32) (h : ¬ (t' = t ∧ k' = k)) : sm_ex R t k v t' k' = R t' k' := if_neg h
theorem sm_k_ft {T ex : Nat} {z z' : sm_Z} {H N : Nat → Nat} {R M P : Nat → Nat → Nat → Int32} {own own' : Nat → Nat} {ft ft' q q' : Nat} (c : sm_cor T ex z H N R M P own ft q)
    {t n s p : Nat} {R1 M1 P1 : Nat → Int32} (ht : t < T) (hn : N t = n) (hn12 : n < 12) (hs : s = sm_sl (H t) t n) (F : sm_fp z z' t s p) (P0 : sm_p0 z T t s p)
    (f13 : z' 13 = z 13) (f10 : z' 10 = z 10) (f5 : z' 5 = z 5) (h15 : z' 15 t = z 15 t) (h16 : z' 16 t = nI (n + 1)) (hP : P1 = fun r => z' 14 (t * 8 + r % 8))
    (he : sm_ent z' t s (R t n) (M t n) (P t n) R1 M1 P1) (hrg : sm_rgs T ft' own' (z' 11) (z' 12) (z' 13) (z' 21) (z' 22) (z' 30)) (h03 : z' 0 3 = nI ft') (hcn : ft' + sm_cnt (z' 21) (z' 30) 48 = ex)
    (h30 : ∀ i, i ≠ s → z' 30 i = z 30 i) (h18 : ∀ i, i ≠ s → z' 18 i = z 18 i) (h04 : z' 0 4 = nI q') (hq16 : q' ≤ 16) (hqi : ∀ i, i < q' → vp_in (z' 31 i) 48) (hqd : ∀ i j, i < j → j < q' → z' 31 i ≠ z' 31 j)
    (hqq : q ≤ q') (hqo : ∀ i, i < q → z' 31 i = z 31 i) (hqn : z' 18 s = 0 → ∃ i, i < q' ∧ z' 31 i = nI s) :
    sm_cor T ex z' H (sm_fn N t (n + 1)) (sm_ex R t (n + 1) R1) (sm_ex M t (n + 1) M1) (sm_ex P t (n + 1) P1) own' ft' q' := by
  obtain ⟨hT, hex, hth, hrg0, hft0, hcn0, hlv, hq, q1, q2, q3, q4⟩ := c
  obtain ⟨c1, c2, c3, c4, c5, c6, c7, c8, c9⟩ := hth t ht
  have hs12 := sm_sl_rng (t := t) c2 hn12
  rw [← hs] at hs12
  refine ⟨hT, hex, fun t' ht' => ?_, hrg, h03, hcn, ?_, h04, hq16, hqi, hqd, ?_⟩
  · by_cases e : t' = t
    · subst e
      rw [sm_fn_y]
      refine ⟨by rw [h15]; exact c1, c2, h16, by omega, ?_, ?_, ?_, ?_, fun k hk => ?_⟩
      · rw [sm_ex_n _ _ (by omega), c5, f10, f13]
      · rw [sm_ex_n _ _ (by omega), c6, f5]
      · rw [sm_ex_n _ _ (by omega), c7, f13]
      · rw [sm_ex_y, hP]
      · by_cases e : k = n
        · subst e
          rw [sm_ex_y, sm_ex_y, sm_ex_y, sm_ex_n _ _ (by omega), sm_ex_n _ _ (by omega), sm_ex_n _ _ (by omega), ← hs]
          exact he
        · rw [sm_ex_n _ _ (by omega), sm_ex_n _ _ (by omega), sm_ex_n _ _ (by omega), sm_ex_n _ _ (by omega), sm_ex_n _ _ (by omega), sm_ex_n _ _ (by omega)]
          have hj' := sm_sl_rng (t := t') c2 (show k < 12 by omega)
          refine sm_ent_fr (sm_fp_ags F P0 (by omega) (fun e' => ?_) (c9 k (by omega)).1) (c9 k (by omega))
          rw [hs] at e'
          exact e (sm_sl_inj c2 (by omega) (by omega) e')
    · rw [sm_fn_n N e]
      have e1 : sm_ex R t (n + 1) R1 t' = R t' := funext fun k => sm_ex_n _ _ (by omega)
      have e2 : sm_ex M t (n + 1) M1 t' = M t' := funext fun k => sm_ex_n _ _ (by omega)
      have e3 : sm_ex P t (n + 1) P1 t' = P t' := funext fun k => sm_ex_n _ _ (by omega)
      rw [e1, e2, e3]
      exact sm_fp_oth hT F P0 (by omega) ht' e (hth t' ht')
  · intro s' hs' hl
    by_cases e : s' = s
    · subst e
      exact ⟨t, n, ht, by rw [sm_fn_y]; omega, hs⟩
    · rw [h30 s' e] at hl
      obtain ⟨t', k', h1, h2, h3⟩ := hlv s' hs' hl
      refine ⟨t', k', h1, ?_, h3⟩
      by_cases e' : t' = t
      · subst e'
        rw [sm_fn_y]
        omega
      · rw [sm_fn_n N e']
        exact h2
  · intro t' k' ht' hk' h0
    by_cases e : sm_sl (H t') t' k' = s
    · rw [e] at h0 ⊢
      exact hqn h0
    · rw [h18 _ e] at h0
      have hk2 : k' < N t' := by
        by_cases e' : t' = t
        · subst e'
          rw [sm_fn_y] at hk'
          rcases Nat.lt_or_ge k' n with h | h
          · omega
          · exact absurd (by rw [hs, show k' = n by omega]) e
        · rw [sm_fn_n N e'] at hk'
          exact hk'
      obtain ⟨i, hi, ei⟩ := q4 t' k' ht' hk2 h0
      exact ⟨i, by omega, by rw [hqo i hi]; exact ei⟩
/-- the control of a fetch -/
theorem sm_ctl_ft {z z' : sm_Z} {t h n : Nat} {R0 M0 : Nat → Int32} {F : sm_A} (hh : h < 12) (hn12 : n < 12) (c : sm_ctl z t h n R0 M0 F) (h33 : z 33 t = 0) (hact : z 36 t ≠ 0)
    (f : ∀ j, 1 ≤ j → j ≤ 4 → z' j = z j) (g : ∀ j, (6 ≤ j ∧ j ≤ 9) ∨ j = 36 ∨ j = 37 → z' j t = z j t)
    (e : ∀ j i, (j = 17 ∨ j = 18 ∨ j = 20 ∨ j = 28 ∨ j = 29) → i ≠ sm_sl h t n → z' j i = z j i) (h17 : z' 17 (sm_sl h t n) = z 32 t)
    (hf : (z' 33 t ≠ 0 ∧ sm_isb z' (sm_sl h t n)) ∨ (z' 33 t = 0 ∧ ¬ sm_isb z' (sm_sl h t n) ∧ z' 32 t = sm_nx z' (sm_sl h t n))) : sm_ctl z' t h (n + 1) R0 M0 F := by
  obtain ⟨⟨p1, p2⟩, p3, p4⟩ := c
  obtain ⟨_, b2, b3⟩ : z 33 t = 0 ∧ (n = 0 → z 32 t = z 7 t) ∧ (∀ k, n = k + 1 → ¬ sm_isb z (sm_sl h t k) ∧ z 32 t = sm_nx z (sm_sl h t k)) := by
    rcases p3 hact with b | ⟨b, _⟩
    · exact b
    · exact absurd h33 b
  have ne : ∀ k, k < n → sm_sl h t k ≠ sm_sl h t n := fun k hk e => by
    have := sm_sl_inj hh (by omega) (by omega) e
    omega
  have nx : ∀ k, k < n → sm_nx z' (sm_sl h t k) = sm_nx z (sm_sl h t k) := fun k hk => by
    unfold sm_nx
    rw [e 18 _ (by omega) (ne k hk), e 28 _ (by omega) (ne k hk), e 29 _ (by omega) (ne k hk)]
  have ib : ∀ k, k < n → (sm_isb z' (sm_sl h t k) ↔ sm_isb z (sm_sl h t k)) := fun k hk => by
    unfold sm_isb
    rw [e 20 _ (by omega) (ne k hk)]
  refine ⟨⟨fun _ => ?_, fun k hk => ?_⟩, fun _ => ?_, ?_⟩
  · by_cases e0 : n = 0
    · subst e0
      rw [h17, b2 rfl, g 7 (by omega)]
    · rw [e 17 _ (by omega) (ne 0 (by omega)), g 7 (by omega)]
      exact p1 (by omega)
  · by_cases e0 : k + 1 = n
    · rw [ib k (by omega), nx k (by omega), e0, h17]
      exact b3 k e0.symm
    · rw [ib k (by omega), nx k (by omega), e 17 _ (by omega) (ne (k + 1) (by omega))]
      exact p2 k (by omega)
  · rcases hf with ⟨a1, a2⟩ | ⟨a1, a2, a3⟩
    · exact Or.inr ⟨a1, n, rfl, a2⟩
    · refine Or.inl ⟨a1, fun h0 => absurd h0 (by omega), fun k hk => ?_⟩
      have : k = n := by omega
      subst this
      exact ⟨a2, a3⟩
  · unfold sm_fnl at *
    rw [g 36 (by omega), g 37 (by omega), g 6 (by omega), g 7 (by omega), g 8 (by omega), g 9 (by omega), f 1 (by omega) (by omega), f 2 (by omega) (by omega), f 3 (by omega) (by omega), f 4 (by omega) (by omega)]
    rcases p4 with ⟨a1, _⟩ | a
    · exact absurd a1 hact
    · exact Or.inr a
/-- what a fetch leaves: a stopping entry, or one to be carried out -/
def sm_fbk (z z' : sm_Z) (t s n : Nat) : Prop :=
  (∀ j i, ¬ ((j = 16 ∨ j = 33) ∧ i = t) → ¬ ((j = 30 ∨ j = 17 ∨ j = 21 ∨ j = 20 ∨ j = 28 ∨ j = 29 ∨ j = 18) ∧ i = s) → z' j i = z j i) ∧
  z' 16 t = nI (n + 1) ∧ z' 30 s = 1 ∧ z' 17 s = z 32 t ∧ z' 21 s = -1 ∧ z' 18 s = 2 ∧ z' 33 t = 1 ∧
  ((z' 20 s = 4 ∧ (z 32 t < 0 ∨ ¬ z 32 t < z 4 t)) ∨ (z' 20 s = 1 ∧ ¬ (z 32 t < 0 ∨ ¬ z 32 t < z 4 t) ∧ z 1 (t * 24 + (z 32 t).toNatClampNeg) = 0))
def sm_frn (z z' : sm_Z) (t s n q ft p : Nat) (o g : Int32) : Prop :=
  (∀ j i, ¬ ((j = 16 ∨ j = 32) ∧ i = t) → ¬ (17 ≤ j ∧ j ≤ 30 ∧ j ≠ 19 ∧ i = s) → ¬ (j = 31 ∧ i = q) → ¬ (j = 0 ∧ i = 4) →
    (sm_wr o → ¬ (j = 0 ∧ i = 3) ∧ ¬ (j = 11 ∧ i = (z 12 (ft - 1)).toNatClampNeg) ∧ ¬ (j = 14 ∧ i = t * 8 + sm_rd g)) → z' j i = z j i) ∧
  z' 16 t = nI (n + 1) ∧ z' 30 s = 1 ∧ z' 17 s = nI p ∧ z' 18 s = 0 ∧ z' 20 s = 0 ∧ z' 24 s = z 14 (t * 8 + sm_ra g) ∧ z' 25 s = z 14 (t * 8 + sm_rb g) ∧ z' 31 q = nI s ∧ z' 0 4 = nI (q + 1) ∧ z' 29 s = z' 32 t ∧
  (sm_wr o → z' 21 s = nI (sm_rd g) ∧ z' 22 s = z 12 (ft - 1) ∧ z' 23 s = z 14 (t * 8 + sm_rd g) ∧ z' 14 (t * 8 + sm_rd g) = z 12 (ft - 1) ∧ z' 11 (z 12 (ft - 1)).toNatClampNeg = 0 ∧ z' 0 3 = nI (ft - 1)) ∧
  (¬ sm_wr o → z' 21 s = -1)
end
section
theorem sm_free_slot {T ex : Nat} {z : sm_Z} {H N : Nat → Nat} {R M P : Nat → Nat → Nat → Int32} {own : Nat → Nat} {ft q : Nat} (c : sm_cor T ex z H N R M P own ft q) {t : Nat} (ht : t < T) (hn : N t < 12) : z 30 (sm_sl (H t) t (N t)) = 0 := by
  obtain ⟨hT, hex, hth, hrg, hft, hcn, hlv, hq, q1, q2, q3, q4⟩ := c
  obtain ⟨c1, c2, c3, c4, _⟩ := hth t ht
  refine Classical.byContradiction fun hl => ?_
  obtain ⟨t', k', h1, h2, h3⟩ := hlv _ (sm_sl_lt c2 hn (by omega)) hl
  obtain ⟨_, d2, _, d4, _⟩ := hth t' h1
  have e := sm_sl_thr c2 d2 hn (by omega) h3
  subst e
  have := sm_sl_inj c2 hn (by omega) h3
  omega
theorem sm_J_fbk {T W V ex : Nat} {F : Nat → sm_A} {z z' : sm_Z} {H N : Nat → Nat} {R M P : Nat → Nat → Nat → Int32} {own : Nat → Nat} {ft q : Nat} (j : sm_J T W V ex F z H N R M P own ft q)
    {t s : Nat} (ht : t < T) (hcf : sm_cf V z t (N t) q ft) (hs : s = sm_sl (H t) t (N t)) (d : sm_fbk z z' t s (N t)) : sm_K T W V ex F z' H (sm_fn N t (N t + 1)) := by
  obtain ⟨hprm, c, hqs, hctl⟩ := j
  have hV := hprm.2.2.2.2.2.2.2.2.1
  obtain ⟨f1, f2, f3, f4, f5⟩ := hcf
  have cc := c
  obtain ⟨hT, hex, hth, hrg, hft, hcn, hlv, hqq, q1, q2, q3, q4⟩ := cc
  obtain ⟨c1, c2, c3, c4, c5, c6, c7, c8, c9⟩ := hth t ht
  have hs12 := sm_sl_rng (t := t) c2 (show N t < 12 by omega)
  have hfs := sm_free_slot c ht (show N t < 12 by omega)
  rw [← hs] at hs12 hfs
  obtain ⟨f, d16, d30, d17, d21, d18, d33, d20⟩ := d
  have row : ∀ jj, (jj ≤ 15 ∨ jj = 22 ∨ jj = 31) → z' jj = z jj := fun jj h => funext fun i => f jj i (by omega) (by omega)
  have r30 : ∀ i, i ≠ s → z' 30 i = z 30 i := fun i hi => f 30 i (by omega) (by omega)
  have r18 : ∀ i, i ≠ s → z' 18 i = z 18 i := fun i hi => f 18 i (by omega) (by omega)
  have r21 : ∀ i, i ≠ s → z' 21 i = z 21 i := fun i hi => f 21 i (by omega) (by omega)
  have ib : sm_isb z' s := d20.elim (fun x => Or.inr x.1) (fun x => Or.inl x.1)
  have he : sm_ent z' t s (R t (N t)) (M t (N t)) (P t (N t)) (R t (N t)) (M t (N t)) (P t (N t)) := by
    refine ⟨d30, Or.inl ⟨⟨d18, d21, ?_⟩, rfl, rfl, rfl⟩⟩
    rw [d17, row 4 (by omega), row 1 (by omega)]
    exact d20
  have core := sm_k_ft (p := 99) (own' := own) (ft' := ft) (q' := q) c ht rfl (by omega) hs (fun jj i h1 h2 h3 h4 h5 h6 h7 h8 h9 => f jj i (by omega) (by omega)) (sm_p0_none hrg) (row 13 (by omega)) (row 10 (by omega)) (row 5 (by omega)) (by rw [row 15 (by omega)]) d16
    (by rw [c8, row 14 (by omega)]) he
    ⟨by rw [row 12 (by omega)]; exact hrg.1, by rw [row 13 (by omega), row 11 (by omega)]; exact hrg.2.1, fun s' hs' hl hd => by
      by_cases e : s' = s
      · subst e
        exact absurd (sm_n21 d21) hd
      · rw [r30 s' e] at hl
        rw [r21 s' e] at hd
        rw [row 22 (by omega)]
        exact hrg.2.2 s' hs' hl hd⟩
    (by rw [row 0 (by omega)]; exact hft)
    (by
      rw [← hcn]
      congr 1
      refine sm_cnt_eq 48 (fun i _ => ?_)
      unfold sm_wt
      by_cases e : i = s
      · subst e
        rw [if_pos (Or.inr (sm_n21 d21)), if_pos (Or.inl hfs)]
      · rw [r30 i e, r21 i e])
    r30 r18 (by rw [row 0 (by omega)]; exact hqq) q1 (by rw [row 31 (by omega)]; exact q2) (by rw [row 31 (by omega)]; exact q3) (Nat.le_refl q) (fun i _ => by rw [row 31 (by omega)]) (fun h => absurd h (by rw [d18]; decide))
  refine ⟨_, _, _, own, ft, q, sm_prm_fr (fun i hi => by rw [row 0 (by omega)]) (row 4 (by omega)) hprm, core, fun i hi => ?_, fun t' ht' => ?_⟩
  · have h1 := hqs i hi
    unfold sm_kp at *
    rw [row 31 (by omega)]
    have hne : (z 31 i).toNatClampNeg ≠ s := fun e => by
      rw [e] at h1
      exact h1.1 hfs
    rw [r30 _ hne, r18 _ hne]
    exact h1
  · by_cases e : t' = t
    · subst e
      rw [sm_fn_y, sm_ex_n _ _ (by omega), sm_ex_n _ _ (by omega)]
      refine sm_ctl_ft c2 (by omega) (hctl t' ht') f2 f1 (fun jj a1 a2 => row jj (by omega)) (fun jj a => f jj t' (by omega) (by omega)) (fun jj i a1 a2 => f jj i (by omega) (by omega)) (by rw [← hs]; exact d17) (Or.inl ⟨by rw [d33]; decide, by rw [← hs]; exact ib⟩)
    · rw [sm_fn_n N e, sm_ex_n _ _ (by omega), sm_ex_n _ _ (by omega)]
      obtain ⟨_, e2, _, e4, _⟩ := hth t' ht'
      refine sm_ctl_fr (fun jj a1 a2 => row jj (by omega)) (fun jj a1 a2 a3 => f jj t' (by omega) (by omega)) (fun jj k hk hj => f jj _ (by omega) ?_) (hctl t' ht')
      have := sm_sl_rng (t := t') e2 (show k < 12 by omega)
      omega
theorem sm_J_frn {T W V ex : Nat} {F : Nat → sm_A} {z z' : sm_Z} {H N : Nat → Nat} {R M P : Nat → Nat → Nat → Int32} {own : Nat → Nat} {ft q : Nat} (j : sm_J T W V ex F z H N R M P own ft q)
    {t s p : Nat} {o g : Int32} (ht : t < T) (hcf : sm_cf V z t (N t) q ft) (hs : s = sm_sl (H t) t (N t)) (h32 : z 32 t = nI p) (hp24 : p < 24) (hsz : nI p < z 4 t) (ho : z 1 (t * 24 + p) = o) (hg : z 2 (t * 24 + p) = g) (ho0 : o ≠ 0)
    (d : sm_frn z z' t s (N t) q ft p o g) : sm_K T W V ex F z' H (sm_fn N t (N t + 1)) := by
  obtain ⟨hprm, c, hqs, hctl⟩ := j
  have hV := hprm.2.2.2.2.2.2.2.2.1
  obtain ⟨f1, f2, f3, f4, f5⟩ := hcf
  have cc := c
  obtain ⟨hT, hex, hth, hrg, hft, hcn, hlv, hqq, q1, q2, q3, q4⟩ := cc
  obtain ⟨c1, c2, c3, c4, c5, c6, c7, c8, c9⟩ := hth t ht
  have hs12 := sm_sl_rng (t := t) c2 (show N t < 12 by omega)
  have hfs := sm_free_slot c ht (show N t < 12 by omega)
  rw [← hs] at hs12 hfs
  have hrd := sm_rd_lt g
  obtain ⟨f, d16, d30, d17, d18, d20, d24, d25, d31, d04, d29, dw, dn⟩ := d
  have f' : ∀ jj i, jj ≠ 0 → jj ≠ 11 → jj ≠ 14 → ¬ ((jj = 16 ∨ jj = 32) ∧ i = t) → ¬ (17 ≤ jj ∧ jj ≤ 30 ∧ jj ≠ 19 ∧ i = s) → ¬ (jj = 31 ∧ i = q) → z' jj i = z jj i := fun jj i a1 a2 a3 a4 a5 a6 => f jj i a4 a5 a6 (by omega) (fun _ => ⟨by omega, by omega, by omega⟩)
  have row : ∀ jj, ((1 ≤ jj ∧ jj ≤ 10) ∨ jj = 12 ∨ jj = 13 ∨ jj = 15) → z' jj = z jj := fun jj h => funext fun i => f' jj i (by omega) (by omega) (by omega) (by omega) (by omega) (by omega)
  have rob : ∀ jj i, 17 ≤ jj → jj ≤ 30 → i ≠ s → z' jj i = z jj i := fun jj i a1 a2 a3 => f' jj i (by omega) (by omega) (by omega) (by omega) (by omega) (by omega)
  have r31 : ∀ i, i ≠ q → z' 31 i = z 31 i := fun i hi => f' 31 i (by omega) (by omega) (by omega) (by omega) (by omega) (by omega)
  have hA : z' 24 s = P t (N t) (sm_ra g) := by
    rw [d24, c8]
    try dsimp only
    rw [Nat.mod_eq_of_lt (sm_ra_lt g)]
  have hB : z' 25 s = P t (N t) (sm_rb g) := by
    rw [d25, c8]
    try dsimp only
    rw [Nat.mod_eq_of_lt (sm_rb_lt g)]
  have hqn : ∀ i, i < q → (z 31 i).toNatClampNeg ≠ s := fun i hi e => by
    have h1 := hqs i hi
    unfold sm_kp at h1
    rw [e] at h1
    exact h1.1 hfs
  have hqi : ∀ i, i < q + 1 → vp_in (z' 31 i) 48 := fun i hi => by
    by_cases e : i = q
    · subst e
      rw [d31]
      exact vp_in_nI (by omega) (by decide)
    · rw [r31 i e]
      exact q2 i (by omega)
  have hqd : ∀ i j, i < j → j < q + 1 → z' 31 i ≠ z' 31 j := fun a b hab hb => by
    rw [r31 a (by omega)]
    by_cases e : b = q
    · subst e
      rw [d31]
      intro h
      refine hqn a hab ?_
      rw [h, nI_clamp (by omega)]
    · rw [r31 b e]
      exact q3 a b hab (by omega)
  have core : ∃ R1 M1 P1 own' ft', sm_cor T ex z' H (sm_fn N t (N t + 1)) (sm_ex R t (N t + 1) R1) (sm_ex M t (N t + 1) M1) (sm_ex P t (N t + 1) P1) own' ft' (q + 1) := by
    by_cases w : sm_wr o
    · obtain ⟨d21, d22, d23, d14, d11, d03⟩ := dw w
      obtain ⟨hpi, hpo⟩ := hrg.1 (ft - 1) (by omega)
      have hp56 := sm_cl_lt hpi
      have n21 : ¬ z' 21 s < 0 := by rw [d21]; exact nI_pos (by omega)
      generalize hpe : (z 12 (ft - 1)).toNatClampNeg = pf at *
      have r11 : ∀ i, i ≠ pf → z' 11 i = z 11 i := fun i hi => f 11 i (by omega) (by omega) (by omega) (by omega) (fun _ => ⟨by omega, by omega, by omega⟩)
      have r14 : ∀ i, i ≠ t * 8 + sm_rd g → z' 14 i = z 14 i := fun i hi => f 14 i (by omega) (by omega) (by omega) (by omega) (fun _ => ⟨by omega, by omega, by omega⟩)
      refine ⟨sm_R1 o g (z 3 (t * 24 + p)) (nI p) (R t (N t)) (M t (N t)), sm_M1 o g (z 3 (t * 24 + p)) (R t (N t)) (M t (N t)), sm_u8 (P t (N t)) (sm_rd g) (z' 22 s), fun x => if x = pf then 200 + s else own x, ft - 1, ?_⟩
      refine sm_k_ft (p := pf) c ht rfl (by omega) hs (fun jj i h1 h2 h3 h4 h5 h6 h7 h8 h9 => f jj i (by omega) (by omega) (by omega) (by omega) (fun _ => ⟨by omega, by omega, by omega⟩)) (sm_p0_own hrg (fun t' r a1 a2 a3 => by omega) (fun s' a1 a2 => by omega)) (row 13 (by omega)) (row 10 (by omega)) (row 5 (by omega)) (by rw [row 15 (by omega)]) d16 ?_ ?_ ⟨fun i hi => ?_, fun t' r ht' hr => ?_, fun s' hs' hl hd => ?_⟩ d03 ?_ (fun i hi => rob 30 i (by omega) (by omega) hi) (fun i hi => rob 18 i (by omega) (by omega) hi) d04 (by omega) hqi hqd (by omega) (fun i hi => r31 i (by omega)) (fun _ => ⟨q, by omega, d31⟩)
      · funext r
        unfold sm_u8
        by_cases e : r % 8 = sm_rd g
        · rw [if_pos e, e, d14, d22]
        · rw [if_neg e, r14 _ (by omega), c8]
      · refine ⟨d30, Or.inr ⟨p, o, g, z 3 (t * 24 + p), d17, hp24, by rw [row 4 (by omega)]; exact hsz, by rw [row 1 (by omega)]; exact ho, by rw [row 2 (by omega)]; exact hg, by rw [row 3 (by omega)], ho0, hA, hB, fun _ => ⟨d21, ?_, rfl⟩, fun nw => absurd w nw, rfl, rfl, Or.inl ⟨d18, d20, fun _ => ?_⟩⟩⟩
        · rw [d23, c8]
          try dsimp only
          rw [Nat.mod_eq_of_lt hrd]
        · rw [d22, hpe]
          exact d11
      · rw [row 12 (by omega)]
        obtain ⟨a1, a2⟩ := hrg.1 i (by omega)
        refine ⟨a1, ?_⟩
        try dsimp only
        rw [if_neg (fun e => ?_)]
        · exact a2
        · rw [e] at a2
          omega
      · rw [row 13 (by omega)]
        obtain ⟨a1, a2, a3⟩ := hrg.2.1 t' r ht' hr
        have hne : (z 13 (t' * 8 + r)).toNatClampNeg ≠ pf := fun e => by
          rw [e] at a2
          omega
        try dsimp only
        rw [if_neg hne, r11 _ hne]
        exact ⟨a1, a2, a3⟩
      · by_cases e : s' = s
        · subst e
          rw [d22, hpe]
          try dsimp only
          rw [if_pos rfl]
          exact ⟨hpi, rfl⟩
        · rw [rob 30 s' (by omega) (by omega) e] at hl
          rw [rob 21 s' (by omega) (by omega) e] at hd
          rw [rob 22 s' (by omega) (by omega) e]
          obtain ⟨a1, a2⟩ := hrg.2.2 s' hs' hl hd
          refine ⟨a1, ?_⟩
          try dsimp only
          rw [if_neg (fun e => ?_)]
          · exact a2
          · rw [e] at a2
            omega
      · have := sm_cnt_one (a := z' 21) (b := z' 30) (c := z 21) (d := z 30) (s := s) 48 (by omega) (fun i _ hi => by
          unfold sm_wt
          rw [rob 21 i (by omega) (by omega) hi, rob 30 i (by omega) (by omega) hi])
        have w1 : sm_wt (z 21) (z 30) s = 0 := by
          unfold sm_wt
          rw [if_pos (Or.inl hfs)]
        have w2 : sm_wt (z' 21) (z' 30) s = 1 := by
          unfold sm_wt
          rw [if_neg (fun h => ?_)]
          rcases h with h | h
          · rw [d30] at h
            exact absurd h (by decide)
          · exact n21 h
        omega
    · have d21 := dn w
      have f'' : ∀ jj i, ¬ ((jj = 16 ∨ jj = 32) ∧ i = t) → ¬ (17 ≤ jj ∧ jj ≤ 30 ∧ jj ≠ 19 ∧ i = s) → ¬ (jj = 31 ∧ i = q) → ¬ (jj = 0 ∧ i = 4) → z' jj i = z jj i := fun jj i a1 a2 a3 a4 => f jj i a1 a2 a3 a4 (fun h => absurd h w)
      have r11 : z' 11 = z 11 := funext fun i => f'' 11 i (by omega) (by omega) (by omega) (by omega)
      have r14 : z' 14 = z 14 := funext fun i => f'' 14 i (by omega) (by omega) (by omega) (by omega)
      refine ⟨sm_R1 o g (z 3 (t * 24 + p)) (nI p) (R t (N t)) (M t (N t)), sm_M1 o g (z 3 (t * 24 + p)) (R t (N t)) (M t (N t)), P t (N t), own, ft, ?_⟩
      refine sm_k_ft (p := 99) c ht rfl (by omega) hs (fun jj i h1 h2 h3 h4 h5 h6 h7 h8 h9 => f'' jj i (by omega) (by omega) (by omega) (by omega)) (sm_p0_none hrg) (row 13 (by omega)) (row 10 (by omega)) (row 5 (by omega)) (by rw [row 15 (by omega)]) d16 (by rw [c8, r14]) ?_ ⟨?_, ?_, fun s' hs' hl hd => ?_⟩ ?_ ?_ (fun i hi => rob 30 i (by omega) (by omega) hi) (fun i hi => rob 18 i (by omega) (by omega) hi) d04 (by omega) hqi hqd (by omega) (fun i hi => r31 i (by omega)) (fun _ => ⟨q, by omega, d31⟩)
      · exact ⟨d30, Or.inr ⟨p, o, g, z 3 (t * 24 + p), d17, hp24, by rw [row 4 (by omega)]; exact hsz, by rw [row 1 (by omega)]; exact ho, by rw [row 2 (by omega)]; exact hg, by rw [row 3 (by omega)], ho0, hA, hB, fun h => absurd h w, fun _ => ⟨d21, rfl⟩, rfl, rfl, Or.inl ⟨d18, d20, fun h => absurd h w⟩⟩⟩
      · rw [row 12 (by omega)]
        exact hrg.1
      · rw [row 13 (by omega), r11]
        exact hrg.2.1
      · by_cases e : s' = s
        · subst e
          exact absurd (sm_n21 d21) hd
        · rw [rob 30 s' (by omega) (by omega) e] at hl
          rw [rob 21 s' (by omega) (by omega) e] at hd
          rw [rob 22 s' (by omega) (by omega) e]
          exact hrg.2.2 s' hs' hl hd
      · rw [f'' 0 3 (by omega) (by omega) (by omega) (by omega)]
        exact hft
      · rw [← hcn]
        congr 1
        refine sm_cnt_eq 48 (fun i _ => ?_)
        unfold sm_wt
        by_cases e : i = s
        · subst e
          rw [if_pos (Or.inr (sm_n21 d21)), if_pos (Or.inl hfs)]
        · rw [rob 21 i (by omega) (by omega) e, rob 30 i (by omega) (by omega) e]
  obtain ⟨R1, M1, P1, own', ft', core⟩ := core
  have f0 : ∀ i, i < 3 → z' 0 i = z 0 i := fun i hi => f 0 i (by omega) (by omega) (by omega) (by omega) (fun _ => ⟨by omega, by omega, by omega⟩)
  refine ⟨_, _, _, own', ft', q + 1, sm_prm_fr f0 (row 4 (by omega)) hprm, core, fun i hi => ?_, fun t' ht' => ?_⟩
  · unfold sm_kp
    by_cases e : i = q
    · subst e
      rw [d31, nI_clamp (by omega), d30, d18]
      exact ⟨by decide, rfl⟩
    · rw [r31 i e]
      have hne := hqn i (by omega)
      rw [rob 30 _ (by omega) (by omega) hne, rob 18 _ (by omega) (by omega) hne]
      exact hqs i (by omega)
  · by_cases e : t' = t
    · subst e
      rw [sm_fn_y, sm_ex_n _ _ (by omega), sm_ex_n _ _ (by omega)]
      refine sm_ctl_ft c2 (by omega) (hctl t' ht') f2 f1 (fun jj a1 a2 => row jj (by omega)) (fun jj a => f' jj t' (by omega) (by omega) (by omega) (by omega) (by omega) (by omega)) (fun jj i a1 a2 => rob jj i (by omega) (by omega) (by rw [hs]; exact a2)) (by rw [← hs, d17, h32]) (Or.inr ⟨?_, ?_, ?_⟩)
      · rw [f' 33 t' (by omega) (by omega) (by omega) (by omega) (by omega) (by omega)]
        exact f2
      · rw [← hs]
        intro b
        rcases b with b | b <;> (rw [d20] at b; exact absurd b (by decide))
      · rw [← hs]
        unfold sm_nx
        rw [d18, if_neg (by decide), d29]
    · rw [sm_fn_n N e, sm_ex_n _ _ (by omega), sm_ex_n _ _ (by omega)]
      obtain ⟨_, e2, _, e4, _⟩ := hth t' ht'
      refine sm_ctl_fr (fun jj a1 a2 => row jj (by omega)) (fun jj a1 a2 a3 => f' jj t' (by omega) (by omega) (by omega) (by omega) (by omega) (by omega)) (fun jj k hk hj => rob jj _ (by omega) (by omega) ?_) (hctl t' ht')
      have := sm_sl_rng (t := t') e2 (show k < 12 by omega)
      omega
end
section
/-! the walk of a fetch -/
theorem sm_w_blk {post : St2 → Prop} {z : sm_Z} {t s : Nat} {y : Int32} (ht : t < 4) (hs : s < 48) (hp : post (sm_tp (sm_up (sm_up (sm_up z 20 s y) 18 s 2) 33 t 1))) : wpX_blockFetch post (sm_tp z) (nI t) (nI s) y := by
  have it := vp_in_nI ht (show 4 < 2 ^ 31 by decide)
  have is := vp_in_nI hs (show 48 < 2 ^ 31 by decide)
  unfold wpX_blockFetch
  try dsimp only
  rw [nI_clamp (show t < 2 ^ 31 by omega), nI_clamp (show s < 2 ^ 31 by omega)]
  exact ⟨is, nm_e ⟨is, nm_e ⟨it, nm_e hp⟩⟩⟩
theorem sm_w_prd {post : Int32 → Prop} {z : sm_Z} {t a : Nat} {o x : Int32} (ht : t < 4) (ha : a < 96) (hp : ∀ g, post g) : wpX_predict post (sm_tp z) (nI t) (nI a) o x := by
  have it := vp_in_nI ht (show 4 < 2 ^ 31 by decide)
  have ia := vp_in_nI ha (show 96 < 2 ^ 31 by decide)
  have h38 : wX_predict_38 post (nI a) x (z 0 0) (z 0 1) (z 0 2) (z 0 3) (z 0 4) (z 0 5) (z 1) (z 2) (z 3) (z 4) (z 5) (z 6) (z 7) (z 8) (z 9) (z 10) (z 11) (z 12) (z 13) (z 14) (z 15) (z 16) (z 17) (z 18) (z 19) (z 20) (z 21) (z 22) (z 23) (z 24) (z 25) (z 26) (z 27) (z 28) (z 29) (z 30) (z 31) (z 32) (z 33) (z 34) (z 35) (z 36) (z 37) := by
    unfold wX_predict_38
    exact ⟨ia, br_c (fun _ => hp _) (fun _ => ⟨ia, hp _⟩)⟩
  unfold wpX_predict
  try dsimp only
  exact br_c (fun _ => ⟨ia, hp _⟩) (fun _ => br_c (fun _ => ⟨it, hp _⟩) (fun _ => br_c (fun _ => h38) (fun _ => br_c (fun _ => h38) (fun _ => hp _))))
theorem sm_w_rn1 {post : St2 → Prop} {z : sm_Z} {t s a q : Nat} {o x : Int32} (ht : t < 4) (hs : s < 48) (ha : a < 96) (hq : q < 16) (h04 : z 0 4 = nI q)
    (hp : ∀ z' : sm_Z, (∀ j i, ¬ ((j = 18 ∨ j = 29) ∧ i = s) → ¬ (j = 31 ∧ i = q) → ¬ (j = 0 ∧ i = 4) → ¬ (j = 32 ∧ i = t) → z' j i = z j i) → z' 18 s = 0 → z' 31 q = nI s → z' 0 4 = nI (q + 1) → z' 29 s = z' 32 t → post (sm_tp z')) :
    wX_rename_171 post (nI t) (nI s) x (nI a) o (z 0 0) (z 0 1) (z 0 2) (z 0 3) (z 0 4) (z 0 5) (z 1) (z 2) (z 3) (z 4) (z 5) (z 6) (z 7) (z 8) (z 9) (z 10) (z 11) (z 12) (z 13) (z 14) (z 15) (z 16) (z 17) (z 18) (z 19) (z 20) (z 21) (z 22) (z 23) (z 24) (z 25) (z 26) (z 27) (z 28) (z 29) (z 30) (z 31) (z 32) (z 33) (z 34) (z 35) (z 36) (z 37) := by
  have it := vp_in_nI ht (show 4 < 2 ^ 31 by decide)
  have is := vp_in_nI hs (show 48 < 2 ^ 31 by decide)
  have iq := vp_in_nI hq (show 16 < 2 ^ 31 by decide)
  unfold wX_rename_171
  rw [h04, nI_clamp (show t < 2 ^ 31 by omega), nI_clamp (show s < 2 ^ 31 by omega), nI_clamp (show q < 2 ^ 31 by omega)]
  refine ⟨is, nm_e ⟨iq, nm_e (nm_r (nI_1 q) ?_)⟩⟩
  refine sm_w_prd (z := sm_up (sm_up (sm_up z 18 s 0) 31 q (nI s)) 0 4 (nI (q + 1))) ht ha (fun g => ⟨is, nm_e ⟨it, nm_e ?_⟩⟩)
  refine hp (sm_up (sm_up (sm_up (sm_up (sm_up z 18 s 0) 31 q (nI s)) 0 4 (nI (q + 1))) 29 s g) 32 t g) (fun j i h1 h2 h3 h4 => ?_) ?_ ?_ ?_ ?_
  · rw [sm_up_n _ _ _ _ (by omega), sm_up_n _ _ _ _ (by omega), sm_up_n _ _ _ _ (by omega), sm_up_n _ _ _ _ (by omega), sm_up_n _ _ _ _ (by omega)]
  · rw [sm_up_n _ _ _ _ (by omega), sm_up_n _ _ _ _ (by omega), sm_up_n _ _ _ _ (by omega), sm_up_n _ _ _ _ (by omega), sm_up_y]
  · rw [sm_up_n _ _ _ _ (by omega), sm_up_n _ _ _ _ (by omega), sm_up_n _ _ _ _ (by omega), sm_up_y]
  · rw [sm_up_n _ _ _ _ (by omega), sm_up_n _ _ _ _ (by omega), sm_up_y]
  · rw [sm_up_y, sm_up_n _ _ _ _ (by omega), sm_up_y]
theorem sm_w_rn8 {post : St2 → Prop} {z : sm_Z} {t s a q ft : Nat} {o g x : Int32} (ht : t < 4) (hs : s < 48) (ha : a < 96) (hq : q < 16) (h04 : z 0 4 = nI q) (hf0 : 0 < ft) (hf56 : ft ≤ 56) (h03 : z 0 3 = nI ft) (hfi : vp_in (z 12 (ft - 1)) 56)
    (hp : ∀ z' : sm_Z, (∀ j i, ¬ (j = 0 ∧ i = 3) → ¬ (j = 11 ∧ i = (z 12 (ft - 1)).toNatClampNeg) → ¬ (j = 14 ∧ i = t * 8 + sm_rd g) → ¬ ((j = 21 ∨ j = 22 ∨ j = 23) ∧ i = s) → z' j i = z j i) →
        z' 21 s = nI (sm_rd g) → z' 22 s = z 12 (ft - 1) → z' 23 s = z 14 (t * 8 + sm_rd g) → z' 14 (t * 8 + sm_rd g) = z 12 (ft - 1) → z' 11 (z 12 (ft - 1)).toNatClampNeg = 0 → z' 0 3 = nI (ft - 1) → wX_rename_171 post (nI t) (nI s) x (nI a) o (z' 0 0) (z' 0 1) (z' 0 2) (z' 0 3) (z' 0 4) (z' 0 5) (z' 1) (z' 2) (z' 3) (z' 4) (z' 5) (z' 6) (z' 7) (z' 8) (z' 9) (z' 10) (z' 11) (z' 12) (z' 13) (z' 14) (z' 15) (z' 16) (z' 17) (z' 18) (z' 19) (z' 20) (z' 21) (z' 22) (z' 23) (z' 24) (z' 25) (z' 26) (z' 27) (z' 28) (z' 29) (z' 30) (z' 31) (z' 32) (z' 33) (z' 34) (z' 35) (z' 36) (z' 37)) :
    wX_rename_87 post (nI t) (nI s) x (nI a) o g (z 0 0) (z 0 1) (z 0 2) (z 0 3) (z 0 4) (z 0 5) (z 1) (z 2) (z 3) (z 4) (z 5) (z 6) (z 7) (z 8) (z 9) (z 10) (z 11) (z 12) (z 13) (z 14) (z 15) (z 16) (z 17) (z 18) (z 19) (z 20) (z 21) (z 22) (z 23) (z 24) (z 25) (z 26) (z 27) (z 28) (z 29) (z 30) (z 31) (z 32) (z 33) (z 34) (z 35) (z 36) (z 37) := by
  have is := vp_in_nI hs (show 48 < 2 ^ 31 by decide)
  have es : (nI s).toNatClampNeg = s := nI_clamp (by omega)
  have rd := sm_rd_lt g
  have e8 : nI t * 8 + nI (sm_rd g) = nI (t * 8 + sm_rd g) := by rw [show (8 : Int32) = nI 8 from rfl, pk_mul, nI_add]
  have ed : g &&& 7 = nI (sm_rd g) := (sm_and7 _).2
  have i32 : vp_in (nI (t * 8 + sm_rd g)) 32 := vp_in_nI (by omega) (by decide)
  have ef : z 0 3 - 1 = nI (ft - 1) := by
    obtain ⟨f1, rfl⟩ : ∃ f1, ft = f1 + 1 := ⟨ft - 1, by omega⟩
    rw [h03, nI_pred]
    rfl
  unfold wX_rename_87
  refine nm_r ed (nm_r ef ⟨vp_in_nI (by omega) (by decide), nm_r (e' := z 12 (ft - 1)) (by rw [nI_clamp (by omega)]) ⟨hfi, nm_e ⟨is, ?_⟩⟩⟩)
  rw [es, e8, nI_clamp (show t * 8 + sm_rd g < 2 ^ 31 by omega)]
  refine nm_e ⟨is, nm_e ⟨i32, is, nm_e ⟨i32, nm_e ?_⟩⟩⟩
  refine hp (sm_up (sm_up (sm_up (sm_up (sm_up (sm_up z 0 3 (nI (ft - 1))) 11 (z 12 (ft - 1)).toNatClampNeg 0) 21 s (nI (sm_rd g))) 22 s (z 12 (ft - 1))) 23 s (z 14 (t * 8 + sm_rd g))) 14 (t * 8 + sm_rd g) (z 12 (ft - 1))) (fun j i h1 h2 h3 h4 => ?_) ?_ ?_ ?_ ?_ ?_ ?_
  · rw [sm_up_n _ _ _ _ (by omega), sm_up_n _ _ _ _ (by omega), sm_up_n _ _ _ _ (by omega), sm_up_n _ _ _ _ (by omega), sm_up_n _ _ _ _ (by omega), sm_up_n _ _ _ _ (by omega)]
  · rw [sm_up_n _ _ _ _ (by omega), sm_up_n _ _ _ _ (by omega), sm_up_n _ _ _ _ (by omega), sm_up_y]
  · rw [sm_up_n _ _ _ _ (by omega), sm_up_n _ _ _ _ (by omega), sm_up_y]
  · rw [sm_up_n _ _ _ _ (by omega), sm_up_y]
  · rw [sm_up_y]
  · rw [sm_up_n _ _ _ _ (by omega), sm_up_n _ _ _ _ (by omega), sm_up_n _ _ _ _ (by omega), sm_up_n _ _ _ _ (by omega), sm_up_y]
  · rw [sm_up_n _ _ _ _ (by omega), sm_up_n _ _ _ _ (by omega), sm_up_n _ _ _ _ (by omega), sm_up_n _ _ _ _ (by omega), sm_up_n _ _ _ _ (by omega), sm_up_y]
theorem sm_w_ren {post : St2 → Prop} {z : sm_Z} {t s p q ft : Nat} {o g : Int32} (ht : t < 4) (hs : s < 48) (hp24 : p < 24) (hq : q < 16) (h04 : z 0 4 = nI q) (hf0 : 0 < ft) (hf56 : ft ≤ 56) (h03 : z 0 3 = nI ft) (hfi : vp_in (z 12 (ft - 1)) 56)
    (ho : z 1 (t * 24 + p) = o) (hg : z 2 (t * 24 + p) = g)
    (hp : ∀ (z' : sm_Z), (∀ j i, ¬ (j = 32 ∧ i = t) → ¬ (17 ≤ j ∧ j ≤ 30 ∧ j ≠ 19 ∧ j ≠ 17 ∧ j ≠ 20 ∧ j ≠ 30 ∧ j ≠ 28 ∧ i = s) → ¬ (j = 31 ∧ i = q) → ¬ (j = 0 ∧ i = 4) →
          (sm_wr o → ¬ (j = 0 ∧ i = 3) ∧ ¬ (j = 11 ∧ i = (z 12 (ft - 1)).toNatClampNeg) ∧ ¬ (j = 14 ∧ i = t * 8 + sm_rd g)) → z' j i = z j i) →
        z' 18 s = 0 → z' 24 s = z 14 (t * 8 + sm_ra g) → z' 25 s = z 14 (t * 8 + sm_rb g) → z' 31 q = nI s → z' 0 4 = nI (q + 1) → z' 29 s = z' 32 t →
        (sm_wr o → z' 21 s = nI (sm_rd g) ∧ z' 22 s = z 12 (ft - 1) ∧ z' 23 s = z 14 (t * 8 + sm_rd g) ∧ z' 14 (t * 8 + sm_rd g) = z 12 (ft - 1) ∧ z' 11 (z 12 (ft - 1)).toNatClampNeg = 0 ∧ z' 0 3 = nI (ft - 1)) →
        (¬ sm_wr o → z' 21 s = z 21 s) → post (sm_tp z')) :
    wpX_rename post (sm_tp z) (nI t) (nI s) (nI p) := by
  have is := vp_in_nI hs (show 48 < 2 ^ 31 by decide)
  have es : (nI s).toNatClampNeg = s := nI_clamp (by omega)
  have e24 : nI t * 24 + nI p = nI (t * 24 + p) := by rw [show (24 : Int32) = nI 24 from rfl, pk_mul, nI_add]
  have i96 := vp_in_nI (show t * 24 + p < 96 by omega) (show 96 < 2 ^ 31 by decide)
  have e96 : (nI (t * 24 + p)).toNatClampNeg = t * 24 + p := nI_clamp (by omega)
  have ra := sm_ra_lt g
  have rb := sm_rb_lt g
  have e8 : ∀ y, y < 8 → nI t * 8 + nI y = nI (t * 8 + y) := fun y hy => by rw [show (8 : Int32) = nI 8 from rfl, pk_mul, nI_add]
  have ea : (g >>> ((3 : Int32) &&& 31)) &&& 7 = nI (sm_ra g) := (sm_and7 _).2
  have eb : (g >>> ((6 : Int32) &&& 31)) &&& 7 = nI (sm_rb g) := (sm_and7 _).2
  have i32 : ∀ y, y < 8 → vp_in (nI (t * 8 + y)) 32 := fun y hy => vp_in_nI (by omega) (by decide)
  unfold wpX_rename
  try dsimp only
  refine nm_r e24 ⟨i96, nm_r (e' := o) (by rw [e96]; exact ho) ⟨i96, nm_r (e' := g) (by rw [e96]; exact hg) ?_⟩⟩
  rw [ea, eb, e8 _ ra, e8 _ rb, es, nI_clamp (show t * 8 + sm_ra g < 2 ^ 31 by omega), nI_clamp (show t * 8 + sm_rb g < 2 ^ 31 by omega)]
  refine ⟨i32 _ ra, is, nm_e ⟨i32 _ rb, is, nm_e ?_⟩⟩
  have u2 : ∀ j i, ¬ ((j = 24 ∨ j = 25) ∧ i = s) → sm_up (sm_up z 24 s (z 14 (t * 8 + sm_ra g))) 25 s (z 14 (t * 8 + sm_rb g)) j i = z j i := fun j i h => by rw [sm_up_n _ _ _ _ (by omega), sm_up_n _ _ _ _ (by omega)]
  have v24 : sm_up (sm_up z 24 s (z 14 (t * 8 + sm_ra g))) 25 s (z 14 (t * 8 + sm_rb g)) 24 s = z 14 (t * 8 + sm_ra g) := by rw [sm_up_n _ _ _ _ (by omega), sm_up_y]
  have v25 : sm_up (sm_up z 24 s (z 14 (t * 8 + sm_ra g))) 25 s (z 14 (t * 8 + sm_rb g)) 25 s = z 14 (t * 8 + sm_rb g) := sm_up_y _ _ _ _
  show (_ → wX_rename_87 post (nI t) (nI s) (nI p) (nI (t * 24 + p)) o g (sm_up (sm_up z 24 s (z 14 (t * 8 + sm_ra g))) 25 s (z 14 (t * 8 + sm_rb g)) 0 0) (sm_up (sm_up z 24 s (z 14 (t * 8 + sm_ra g))) 25 s (z 14 (t * 8 + sm_rb g)) 0 1) (sm_up (sm_up z 24 s (z 14 (t * 8 + sm_ra g))) 25 s (z 14 (t * 8 + sm_rb g)) 0 2) (sm_up (sm_up z 24 s (z 14 (t * 8 + sm_ra g))) 25 s (z 14 (t * 8 + sm_rb g)) 0 3) (sm_up (sm_up z 24 s (z 14 (t * 8 + sm_ra g))) 25 s (z 14 (t * 8 + sm_rb g)) 0 4) (sm_up (sm_up z 24 s (z 14 (t * 8 + sm_ra g))) 25 s (z 14 (t * 8 + sm_rb g)) 0 5) (sm_up (sm_up z 24 s (z 14 (t * 8 + sm_ra g))) 25 s (z 14 (t * 8 + sm_rb g)) 1) (sm_up (sm_up z 24 s (z 14 (t * 8 + sm_ra g))) 25 s (z 14 (t * 8 + sm_rb g)) 2) (sm_up (sm_up z 24 s (z 14 (t * 8 + sm_ra g))) 25 s (z 14 (t * 8 + sm_rb g)) 3) (sm_up (sm_up z 24 s (z 14 (t * 8 + sm_ra g))) 25 s (z 14 (t * 8 + sm_rb g)) 4) (sm_up (sm_up z 24 s (z 14 (t * 8 + sm_ra g))) 25 s (z 14 (t * 8 + sm_rb g)) 5) (sm_up (sm_up z 24 s (z 14 (t * 8 + sm_ra g))) 25 s (z 14 (t * 8 + sm_rb g)) 6) (sm_up (sm_up z 24 s (z 14 (t * 8 + sm_ra g))) 25 s (z 14 (t * 8 + sm_rb g)) 7) (sm_up (sm_up z 24 s (z 14 (t * 8 + sm_ra g))) 25 s (z 14 (t * 8 + sm_rb g)) 8) (sm_up (sm_up z 24 s (z 14 (t * 8 + sm_ra g))) 25 s (z 14 (t * 8 + sm_rb g)) 9) (sm_up (sm_up z 24 s (z 14 (t * 8 + sm_ra g))) 25 s (z 14 (t * 8 + sm_rb g)) 10) (sm_up (sm_up z 24 s (z 14 (t * 8 + sm_ra g))) 25 s (z 14 (t * 8 + sm_rb g)) 11) (sm_up (sm_up z 24 s (z 14 (t * 8 + sm_ra g))) 25 s (z 14 (t * 8 + sm_rb g)) 12) (sm_up (sm_up z 24 s (z 14 (t * 8 + sm_ra g))) 25 s (z 14 (t * 8 + sm_rb g)) 13) (sm_up (sm_up z 24 s (z 14 (t * 8 + sm_ra g))) 25 s (z 14 (t * 8 + sm_rb g)) 14) (sm_up (sm_up z 24 s (z 14 (t * 8 + sm_ra g))) 25 s (z 14 (t * 8 + sm_rb g)) 15) (sm_up (sm_up z 24 s (z 14 (t * 8 + sm_ra g))) 25 s (z 14 (t * 8 + sm_rb g)) 16) (sm_up (sm_up z 24 s (z 14 (t * 8 + sm_ra g))) 25 s (z 14 (t * 8 + sm_rb g)) 17) (sm_up (sm_up z 24 s (z 14 (t * 8 + sm_ra g))) 25 s (z 14 (t * 8 + sm_rb g)) 18) (sm_up (sm_up z 24 s (z 14 (t * 8 + sm_ra g))) 25 s (z 14 (t * 8 + sm_rb g)) 19) (sm_up (sm_up z 24 s (z 14 (t * 8 + sm_ra g))) 25 s (z 14 (t * 8 + sm_rb g)) 20) (sm_up (sm_up z 24 s (z 14 (t * 8 + sm_ra g))) 25 s (z 14 (t * 8 + sm_rb g)) 21) (sm_up (sm_up z 24 s (z 14 (t * 8 + sm_ra g))) 25 s (z 14 (t * 8 + sm_rb g)) 22) (sm_up (sm_up z 24 s (z 14 (t * 8 + sm_ra g))) 25 s (z 14 (t * 8 + sm_rb g)) 23) (sm_up (sm_up z 24 s (z 14 (t * 8 + sm_ra g))) 25 s (z 14 (t * 8 + sm_rb g)) 24) (sm_up (sm_up z 24 s (z 14 (t * 8 + sm_ra g))) 25 s (z 14 (t * 8 + sm_rb g)) 25) (sm_up (sm_up z 24 s (z 14 (t * 8 + sm_ra g))) 25 s (z 14 (t * 8 + sm_rb g)) 26) (sm_up (sm_up z 24 s (z 14 (t * 8 + sm_ra g))) 25 s (z 14 (t * 8 + sm_rb g)) 27) (sm_up (sm_up z 24 s (z 14 (t * 8 + sm_ra g))) 25 s (z 14 (t * 8 + sm_rb g)) 28) (sm_up (sm_up z 24 s (z 14 (t * 8 + sm_ra g))) 25 s (z 14 (t * 8 + sm_rb g)) 29) (sm_up (sm_up z 24 s (z 14 (t * 8 + sm_ra g))) 25 s (z 14 (t * 8 + sm_rb g)) 30) (sm_up (sm_up z 24 s (z 14 (t * 8 + sm_ra g))) 25 s (z 14 (t * 8 + sm_rb g)) 31) (sm_up (sm_up z 24 s (z 14 (t * 8 + sm_ra g))) 25 s (z 14 (t * 8 + sm_rb g)) 32) (sm_up (sm_up z 24 s (z 14 (t * 8 + sm_ra g))) 25 s (z 14 (t * 8 + sm_rb g)) 33) (sm_up (sm_up z 24 s (z 14 (t * 8 + sm_ra g))) 25 s (z 14 (t * 8 + sm_rb g)) 34) (sm_up (sm_up z 24 s (z 14 (t * 8 + sm_ra g))) 25 s (z 14 (t * 8 + sm_rb g)) 35) (sm_up (sm_up z 24 s (z 14 (t * 8 + sm_ra g))) 25 s (z 14 (t * 8 + sm_rb g)) 36) (sm_up (sm_up z 24 s (z 14 (t * 8 + sm_ra g))) 25 s (z 14 (t * 8 + sm_rb g)) 37)) ∧ (_ → (_ → wX_rename_87 post (nI t) (nI s) (nI p) (nI (t * 24 + p)) o g (sm_up (sm_up z 24 s (z 14 (t * 8 + sm_ra g))) 25 s (z 14 (t * 8 + sm_rb g)) 0 0) (sm_up (sm_up z 24 s (z 14 (t * 8 + sm_ra g))) 25 s (z 14 (t * 8 + sm_rb g)) 0 1) (sm_up (sm_up z 24 s (z 14 (t * 8 + sm_ra g))) 25 s (z 14 (t * 8 + sm_rb g)) 0 2) (sm_up (sm_up z 24 s (z 14 (t * 8 + sm_ra g))) 25 s (z 14 (t * 8 + sm_rb g)) 0 3) (sm_up (sm_up z 24 s (z 14 (t * 8 + sm_ra g))) 25 s (z 14 (t * 8 + sm_rb g)) 0 4) (sm_up (sm_up z 24 s (z 14 (t * 8 + sm_ra g))) 25 s (z 14 (t * 8 + sm_rb g)) 0 5) (sm_up (sm_up z 24 s (z 14 (t * 8 + sm_ra g))) 25 s (z 14 (t * 8 + sm_rb g)) 1) (sm_up (sm_up z 24 s (z 14 (t * 8 + sm_ra g))) 25 s (z 14 (t * 8 + sm_rb g)) 2) (sm_up (sm_up z 24 s (z 14 (t * 8 + sm_ra g))) 25 s (z 14 (t * 8 + sm_rb g)) 3) (sm_up (sm_up z 24 s (z 14 (t * 8 + sm_ra g))) 25 s (z 14 (t * 8 + sm_rb g)) 4) (sm_up (sm_up z 24 s (z 14 (t * 8 + sm_ra g))) 25 s (z 14 (t * 8 + sm_rb g)) 5) (sm_up (sm_up z 24 s (z 14 (t * 8 + sm_ra g))) 25 s (z 14 (t * 8 + sm_rb g)) 6) (sm_up (sm_up z 24 s (z 14 (t * 8 + sm_ra g))) 25 s (z 14 (t * 8 + sm_rb g)) 7) (sm_up (sm_up z 24 s (z 14 (t * 8 + sm_ra g))) 25 s (z 14 (t * 8 + sm_rb g)) 8) (sm_up (sm_up z 24 s (z 14 (t * 8 + sm_ra g))) 25 s (z 14 (t * 8 + sm_rb g)) 9) (sm_up (sm_up z 24 s (z 14 (t * 8 + sm_ra g))) 25 s (z 14 (t * 8 + sm_rb g)) 10) (sm_up (sm_up z 24 s (z 14 (t * 8 + sm_ra g))) 25 s (z 14 (t * 8 + sm_rb g)) 11) (sm_up (sm_up z 24 s (z 14 (t * 8 + sm_ra g))) 25 s (z 14 (t * 8 + sm_rb g)) 12) (sm_up (sm_up z 24 s (z 14 (t * 8 + sm_ra g))) 25 s (z 14 (t * 8 + sm_rb g)) 13) (sm_up (sm_up z 24 s (z 14 (t * 8 + sm_ra g))) 25 s (z 14 (t * 8 + sm_rb g)) 14) (sm_up (sm_up z 24 s (z 14 (t * 8 + sm_ra g))) 25 s (z 14 (t * 8 + sm_rb g)) 15) (sm_up (sm_up z 24 s (z 14 (t * 8 + sm_ra g))) 25 s (z 14 (t * 8 + sm_rb g)) 16) (sm_up (sm_up z 24 s (z 14 (t * 8 + sm_ra g))) 25 s (z 14 (t * 8 + sm_rb g)) 17) (sm_up (sm_up z 24 s (z 14 (t * 8 + sm_ra g))) 25 s (z 14 (t * 8 + sm_rb g)) 18) (sm_up (sm_up z 24 s (z 14 (t * 8 + sm_ra g))) 25 s (z 14 (t * 8 + sm_rb g)) 19) (sm_up (sm_up z 24 s (z 14 (t * 8 + sm_ra g))) 25 s (z 14 (t * 8 + sm_rb g)) 20) (sm_up (sm_up z 24 s (z 14 (t * 8 + sm_ra g))) 25 s (z 14 (t * 8 + sm_rb g)) 21) (sm_up (sm_up z 24 s (z 14 (t * 8 + sm_ra g))) 25 s (z 14 (t * 8 + sm_rb g)) 22) (sm_up (sm_up z 24 s (z 14 (t * 8 + sm_ra g))) 25 s (z 14 (t * 8 + sm_rb g)) 23) (sm_up (sm_up z 24 s (z 14 (t * 8 + sm_ra g))) 25 s (z 14 (t * 8 + sm_rb g)) 24) (sm_up (sm_up z 24 s (z 14 (t * 8 + sm_ra g))) 25 s (z 14 (t * 8 + sm_rb g)) 25) (sm_up (sm_up z 24 s (z 14 (t * 8 + sm_ra g))) 25 s (z 14 (t * 8 + sm_rb g)) 26) (sm_up (sm_up z 24 s (z 14 (t * 8 + sm_ra g))) 25 s (z 14 (t * 8 + sm_rb g)) 27) (sm_up (sm_up z 24 s (z 14 (t * 8 + sm_ra g))) 25 s (z 14 (t * 8 + sm_rb g)) 28) (sm_up (sm_up z 24 s (z 14 (t * 8 + sm_ra g))) 25 s (z 14 (t * 8 + sm_rb g)) 29) (sm_up (sm_up z 24 s (z 14 (t * 8 + sm_ra g))) 25 s (z 14 (t * 8 + sm_rb g)) 30) (sm_up (sm_up z 24 s (z 14 (t * 8 + sm_ra g))) 25 s (z 14 (t * 8 + sm_rb g)) 31) (sm_up (sm_up z 24 s (z 14 (t * 8 + sm_ra g))) 25 s (z 14 (t * 8 + sm_rb g)) 32) (sm_up (sm_up z 24 s (z 14 (t * 8 + sm_ra g))) 25 s (z 14 (t * 8 + sm_rb g)) 33) (sm_up (sm_up z 24 s (z 14 (t * 8 + sm_ra g))) 25 s (z 14 (t * 8 + sm_rb g)) 34) (sm_up (sm_up z 24 s (z 14 (t * 8 + sm_ra g))) 25 s (z 14 (t * 8 + sm_rb g)) 35) (sm_up (sm_up z 24 s (z 14 (t * 8 + sm_ra g))) 25 s (z 14 (t * 8 + sm_rb g)) 36) (sm_up (sm_up z 24 s (z 14 (t * 8 + sm_ra g))) 25 s (z 14 (t * 8 + sm_rb g)) 37)) ∧ (_ → wX_rename_171 post (nI t) (nI s) (nI p) (nI (t * 24 + p)) o (sm_up (sm_up z 24 s (z 14 (t * 8 + sm_ra g))) 25 s (z 14 (t * 8 + sm_rb g)) 0 0) (sm_up (sm_up z 24 s (z 14 (t * 8 + sm_ra g))) 25 s (z 14 (t * 8 + sm_rb g)) 0 1) (sm_up (sm_up z 24 s (z 14 (t * 8 + sm_ra g))) 25 s (z 14 (t * 8 + sm_rb g)) 0 2) (sm_up (sm_up z 24 s (z 14 (t * 8 + sm_ra g))) 25 s (z 14 (t * 8 + sm_rb g)) 0 3) (sm_up (sm_up z 24 s (z 14 (t * 8 + sm_ra g))) 25 s (z 14 (t * 8 + sm_rb g)) 0 4) (sm_up (sm_up z 24 s (z 14 (t * 8 + sm_ra g))) 25 s (z 14 (t * 8 + sm_rb g)) 0 5) (sm_up (sm_up z 24 s (z 14 (t * 8 + sm_ra g))) 25 s (z 14 (t * 8 + sm_rb g)) 1) (sm_up (sm_up z 24 s (z 14 (t * 8 + sm_ra g))) 25 s (z 14 (t * 8 + sm_rb g)) 2) (sm_up (sm_up z 24 s (z 14 (t * 8 + sm_ra g))) 25 s (z 14 (t * 8 + sm_rb g)) 3) (sm_up (sm_up z 24 s (z 14 (t * 8 + sm_ra g))) 25 s (z 14 (t * 8 + sm_rb g)) 4) (sm_up (sm_up z 24 s (z 14 (t * 8 + sm_ra g))) 25 s (z 14 (t * 8 + sm_rb g)) 5) (sm_up (sm_up z 24 s (z 14 (t * 8 + sm_ra g))) 25 s (z 14 (t * 8 + sm_rb g)) 6) (sm_up (sm_up z 24 s (z 14 (t * 8 + sm_ra g))) 25 s (z 14 (t * 8 + sm_rb g)) 7) (sm_up (sm_up z 24 s (z 14 (t * 8 + sm_ra g))) 25 s (z 14 (t * 8 + sm_rb g)) 8) (sm_up (sm_up z 24 s (z 14 (t * 8 + sm_ra g))) 25 s (z 14 (t * 8 + sm_rb g)) 9) (sm_up (sm_up z 24 s (z 14 (t * 8 + sm_ra g))) 25 s (z 14 (t * 8 + sm_rb g)) 10) (sm_up (sm_up z 24 s (z 14 (t * 8 + sm_ra g))) 25 s (z 14 (t * 8 + sm_rb g)) 11) (sm_up (sm_up z 24 s (z 14 (t * 8 + sm_ra g))) 25 s (z 14 (t * 8 + sm_rb g)) 12) (sm_up (sm_up z 24 s (z 14 (t * 8 + sm_ra g))) 25 s (z 14 (t * 8 + sm_rb g)) 13) (sm_up (sm_up z 24 s (z 14 (t * 8 + sm_ra g))) 25 s (z 14 (t * 8 + sm_rb g)) 14) (sm_up (sm_up z 24 s (z 14 (t * 8 + sm_ra g))) 25 s (z 14 (t * 8 + sm_rb g)) 15) (sm_up (sm_up z 24 s (z 14 (t * 8 + sm_ra g))) 25 s (z 14 (t * 8 + sm_rb g)) 16) (sm_up (sm_up z 24 s (z 14 (t * 8 + sm_ra g))) 25 s (z 14 (t * 8 + sm_rb g)) 17) (sm_up (sm_up z 24 s (z 14 (t * 8 + sm_ra g))) 25 s (z 14 (t * 8 + sm_rb g)) 18) (sm_up (sm_up z 24 s (z 14 (t * 8 + sm_ra g))) 25 s (z 14 (t * 8 + sm_rb g)) 19) (sm_up (sm_up z 24 s (z 14 (t * 8 + sm_ra g))) 25 s (z 14 (t * 8 + sm_rb g)) 20) (sm_up (sm_up z 24 s (z 14 (t * 8 + sm_ra g))) 25 s (z 14 (t * 8 + sm_rb g)) 21) (sm_up (sm_up z 24 s (z 14 (t * 8 + sm_ra g))) 25 s (z 14 (t * 8 + sm_rb g)) 22) (sm_up (sm_up z 24 s (z 14 (t * 8 + sm_ra g))) 25 s (z 14 (t * 8 + sm_rb g)) 23) (sm_up (sm_up z 24 s (z 14 (t * 8 + sm_ra g))) 25 s (z 14 (t * 8 + sm_rb g)) 24) (sm_up (sm_up z 24 s (z 14 (t * 8 + sm_ra g))) 25 s (z 14 (t * 8 + sm_rb g)) 25) (sm_up (sm_up z 24 s (z 14 (t * 8 + sm_ra g))) 25 s (z 14 (t * 8 + sm_rb g)) 26) (sm_up (sm_up z 24 s (z 14 (t * 8 + sm_ra g))) 25 s (z 14 (t * 8 + sm_rb g)) 27) (sm_up (sm_up z 24 s (z 14 (t * 8 + sm_ra g))) 25 s (z 14 (t * 8 + sm_rb g)) 28) (sm_up (sm_up z 24 s (z 14 (t * 8 + sm_ra g))) 25 s (z 14 (t * 8 + sm_rb g)) 29) (sm_up (sm_up z 24 s (z 14 (t * 8 + sm_ra g))) 25 s (z 14 (t * 8 + sm_rb g)) 30) (sm_up (sm_up z 24 s (z 14 (t * 8 + sm_ra g))) 25 s (z 14 (t * 8 + sm_rb g)) 31) (sm_up (sm_up z 24 s (z 14 (t * 8 + sm_ra g))) 25 s (z 14 (t * 8 + sm_rb g)) 32) (sm_up (sm_up z 24 s (z 14 (t * 8 + sm_ra g))) 25 s (z 14 (t * 8 + sm_rb g)) 33) (sm_up (sm_up z 24 s (z 14 (t * 8 + sm_ra g))) 25 s (z 14 (t * 8 + sm_rb g)) 34) (sm_up (sm_up z 24 s (z 14 (t * 8 + sm_ra g))) 25 s (z 14 (t * 8 + sm_rb g)) 35) (sm_up (sm_up z 24 s (z 14 (t * 8 + sm_ra g))) 25 s (z 14 (t * 8 + sm_rb g)) 36) (sm_up (sm_up z 24 s (z 14 (t * 8 + sm_ra g))) 25 s (z 14 (t * 8 + sm_rb g)) 37)))
  generalize sm_up (sm_up z 24 s (z 14 (t * 8 + sm_ra g))) 25 s (z 14 (t * 8 + sm_rb g)) = z1 at *
  have x12 : z1 12 (ft - 1) = z 12 (ft - 1) := u2 _ _ (by omega)
  have x14 : ∀ i, z1 14 i = z 14 i := fun i => u2 14 i (by omega)
  have hw : sm_wr o → wX_rename_87 post (nI t) (nI s) (nI p) (nI (t * 24 + p)) o g (z1 0 0) (z1 0 1) (z1 0 2) (z1 0 3) (z1 0 4) (z1 0 5) (z1 1) (z1 2) (z1 3) (z1 4) (z1 5) (z1 6) (z1 7) (z1 8) (z1 9) (z1 10) (z1 11) (z1 12) (z1 13) (z1 14) (z1 15) (z1 16) (z1 17) (z1 18) (z1 19) (z1 20) (z1 21) (z1 22) (z1 23) (z1 24) (z1 25) (z1 26) (z1 27) (z1 28) (z1 29) (z1 30) (z1 31) (z1 32) (z1 33) (z1 34) (z1 35) (z1 36) (z1 37) := by
    intro w
    refine sm_w_rn8 (q := q) (ft := ft) ht hs (by omega) hq (by rw [u2 0 4 (by omega)]; exact h04) hf0 hf56 (by rw [u2 0 3 (by omega)]; exact h03) (by rw [x12]; exact hfi) (fun z2 f2 a21 a22 a23 a14 a11 a03 => ?_)
    rw [x12] at f2 a22 a14 a11
    rw [x14] at a23
    refine sm_w_rn1 (q := q) ht hs (by omega) hq (by rw [f2 0 4 (by omega) (by omega) (by omega) (by omega), u2 0 4 (by omega)]; exact h04) (fun z3 f3 b18 b31 b04 b29 => ?_)
    refine hp z3 (fun j i h1 h2 h3 h4 h5 => ?_) b18 ?_ ?_ b31 b04 b29 (fun _ => ⟨?_, ?_, ?_, ?_, ?_, ?_⟩) (fun nw => absurd w nw)
    · obtain ⟨h5, h6, h7⟩ := h5 w
      rw [f3 j i (by omega) h3 h4 h1, f2 j i h5 h6 h7 (by omega), u2 j i (by omega)]
    · rw [f3 24 s (by omega) (by omega) (by omega) (by omega), f2 24 s (by omega) (by omega) (by omega) (by omega), v24]
    · rw [f3 25 s (by omega) (by omega) (by omega) (by omega), f2 25 s (by omega) (by omega) (by omega) (by omega), v25]
    · rw [f3 21 s (by omega) (by omega) (by omega) (by omega), a21]
    · rw [f3 22 s (by omega) (by omega) (by omega) (by omega), a22]
    · rw [f3 23 s (by omega) (by omega) (by omega) (by omega), a23]
    · rw [f3 14 _ (by omega) (by omega) (by omega) (by omega), a14]
    · rw [f3 11 _ (by omega) (by omega) (by omega) (by omega), a11]
    · rw [f3 0 3 (by omega) (by omega) (by omega) (by omega), a03]
  refine br_c (fun h => hw (Or.inl h)) (fun h => br_c (fun h1 => hw (Or.inr h1)) (fun h1 => ?_))
  have nw : ¬ sm_wr o := fun w => w.elim h h1
  refine sm_w_rn1 (q := q) ht hs (by omega) hq (by rw [u2 0 4 (by omega)]; exact h04) (fun z3 f3 b18 b31 b04 b29 => ?_)
  refine hp z3 (fun j i h1 h2 h3 h4 h5 => ?_) b18 ?_ ?_ b31 b04 b29 (fun w => absurd w nw) (fun _ => ?_)
  · rw [f3 j i (by omega) h3 h4 h1, u2 j i (by omega)]
  · rw [f3 24 s (by omega) (by omega) (by omega) (by omega), v24]
  · rw [f3 25 s (by omega) (by omega) (by omega) (by omega), v25]
  · rw [f3 21 s (by omega) (by omega) (by omega) (by omega), u2 21 s (by omega)]
/-- what a fetch tells -/
def sm_G2 (T W V ex : Nat) (F : Nat → sm_A) (z : sm_Z) (H N : Nat → Nat) (t : Nat) (z' : sm_Z) : Prop :=
  sm_K T W V ex F z' H (sm_fn N t (N t + 1)) ∧ sm_stc z z' ∧
  (∀ t', t' < T → (t' ≠ t ∨ 0 < N t) → ∀ e2 e1 e0 ee m, sm_rk e2 e1 e0 ee z t' (H t') (N t') m → sm_rk e2 e1 e0 ee z' t' (H t') (sm_fn N t (N t + 1) t') m) ∧
  (N t = 0 → ∀ m, sm_rk 2 2 7 23 z t (H t) (N t) m → sm_rk 2 2 7 23 z' t (H t) (sm_fn N t (N t + 1) t) (m - 1))
theorem sm_G2_i {T W V ex : Nat} {F : Nat → sm_A} {z z' : sm_Z} {H N : Nat → Nat} {R M P : Nat → Nat → Nat → Int32} {own : Nat → Nat} {ft q : Nat} (j : sm_J T W V ex F z H N R M P own ft q)
    {t s : Nat} (ht : t < T) (hcf : sm_cf V z t (N t) q ft) (hs : s = sm_sl (H t) t (N t)) (k : sm_K T W V ex F z' H (sm_fn N t (N t + 1)))
    (f : ∀ jj i, ((1 ≤ jj ∧ jj ≤ 4) ∨ jj = 36 ∨ jj = 37) → z' jj i = z jj i) (g : ∀ jj i, (jj = 18 ∨ jj = 19 ∨ jj = 30) → i ≠ s → z' jj i = z jj i) (hq : ∀ i, i < q → z' 31 i = z 31 i) (h04 : z' 0 4 = nI q ∨ (z' 0 4 = nI (q + 1) ∧ z' 31 q = nI s))
    (h18 : z' 18 s = 2 ∨ (z' 18 s = 0 ∧ z' 0 4 = nI (q + 1) ∧ z' 31 q = nI s)) : sm_G2 T W V ex F z H N t z' := by
  obtain ⟨hprm, c, hqs, hctl⟩ := j
  have hV := hprm.2.2.2.2.2.2.2.2.1
  obtain ⟨f1, f2, f3, f4, f5⟩ := hcf
  obtain ⟨hT, hex, hth, hrg, hft, hcn, hlv, hqq, q1, q2, q3, q4⟩ := c
  obtain ⟨c1, c2, c3, c4, c5, c6, c7, c8, c9⟩ := hth t ht
  have hs12 := sm_sl_rng (t := t) c2 (show N t < 12 by omega)
  rw [← hs] at hs12
  have qm : sm_qm z z' := by
    intro x i hx hp _ _
    obtain ⟨q', a1, a2, a3, a4⟩ := hp
    rw [hqq] at a1
    have := sm_nI_inj (by omega) (by omega) a1
    subst this
    rcases h04 with h | ⟨h, _⟩
    · exact ⟨i, Nat.le_refl i, q, h, a2, a3, by rw [hq i a2]; exact a4⟩
    · exact ⟨i, Nat.le_refl i, q + 1, h, by omega, by omega, by rw [hq i a2]; exact a4⟩
  refine ⟨k, fun jj a1 a2 => funext fun i => f jj i (by omega), fun t' ht' hor e2 e1 e0 ee m h => ?_, fun h0 m h => ?_⟩
  · obtain ⟨c1', c2', c3', c4', c5', c6', c7', c8', c9'⟩ := hth t' ht'
    have hne : 0 < N t' → sm_sl (H t') t' 0 ≠ s := fun hn e => by
      rw [hs] at e
      have e' := sm_sl_thr c2' c2 (by omega) (by omega) e
      subst e'
      have := sm_sl_inj c2 (by omega) (by omega) e
      omega
    refine sm_rk_fr2 ?_ (sm_sl_lt c2' (by omega) (by omega)) (f 36 _ (by omega)) (f 37 _ (by omega)) (fun hn => g 18 _ (by omega) (hne hn)) (fun hn => g 19 _ (by omega) (hne hn)) (fun hn => ?_) qm h
    · by_cases e : t' = t
      · subst e
        rw [sm_fn_y]
        omega
      · rw [sm_fn_n N e]
    · rw [g 30 _ (by omega) (hne hn), (c9' 0 hn).1]
      decide
  · rw [sm_fn_y]
    rw [h0] at hs
    rcases h with h | ⟨qa, g1, g2, ⟨g3, g4⟩ | ⟨g3, _⟩⟩
    · exact absurd h f1
    · refine Or.inr ⟨qa, by rw [f 37 t (by omega)]; exact g1, g2, Or.inr ⟨by omega, ?_⟩⟩
      rw [← hs]
      rcases h18 with h | ⟨h, b1, b2⟩
      · exact Or.inl ⟨h, by omega⟩
      · exact Or.inr (Or.inr ⟨h, q, ⟨q + 1, b1, by omega, by omega, b2⟩, by omega⟩)
    · omega
theorem sm_w_ft1 {post : St2 → Prop} {T W V ex : Nat} {F : Nat → sm_A} {z : sm_Z} {H N : Nat → Nat} {R M P : Nat → Nat → Nat → Int32} {own : Nat → Nat} {ft q : Nat} (j : sm_J T W V ex F z H N R M P own ft q)
    {t : Nat} (ht : t < T) (hcf : sm_cf V z t (N t) q ft) (hp : ∀ z' : sm_Z, sm_G2 T W V ex F z H N t z' → post (sm_tp z')) : wpX_fetchOne post (sm_tp z) (nI t) := by
  have hj := j
  obtain ⟨hprm, c, hqs, hctl⟩ := j
  have hV := hprm.2.2.2.2.2.2.2.2.1
  have hcf' := hcf
  obtain ⟨f1, f2, f3, f4, f5⟩ := hcf
  obtain ⟨hT, hex, hth, hrg, hft, hcn, hlv, hqq, q1, q2, q3, q4⟩ := c
  obtain ⟨c1, c2, c3, c4, c5, c6, c7, c8, c9⟩ := hth t ht
  have it := vp_in_nI (show t < 4 by omega) (show 4 < 2 ^ 31 by decide)
  have et : (nI t).toNatClampNeg = t := nI_clamp (by omega)
  have hs48 := sm_sl_lt (t := t) c2 (show N t < 12 by omega) (by omega)
  have is := vp_in_nI hs48 (show 48 < 2 ^ 31 by decide)
  have es : (nI (sm_sl (H t) t (N t))).toNatClampNeg = sm_sl (H t) t (N t) := nI_clamp (by omega)
  unfold wpX_fetchOne
  try dsimp only
  rw [et, c3]
  refine ⟨it, sm_w_slot (k := N t) c1 (by omega) c2 (by omega) ?_⟩
  generalize hs : sm_sl (H t) t (N t) = s at *
  try dsimp only
  rw [es, nI_1]
  refine ⟨it, nm_e ⟨it, it, nm_e ⟨is, nm_e ⟨is, nm_e ⟨is, nm_e ⟨is, nm_e ⟨is, nm_e ⟨is, nm_e ?_⟩⟩⟩⟩⟩⟩⟩⟩
  -- the state behind the seven stores
  have u7 : ∀ jj i, ¬ (jj = 16 ∧ i = t) → ¬ ((jj = 30 ∨ jj = 17 ∨ jj = 21 ∨ jj = 20 ∨ jj = 28 ∨ jj = 29) ∧ i = s) → sm_up (sm_up (sm_up (sm_up (sm_up (sm_up (sm_up z 16 t (nI (N t + 1))) 30 s 1) 17 s (z 32 t)) 21 s (-1)) 20 s 0) 28 s (z 32 t)) 29 s (z 32 t) jj i = z jj i := fun jj i a1 a2 => by
    rw [sm_up_n _ _ _ _ (by omega), sm_up_n _ _ _ _ (by omega), sm_up_n _ _ _ _ (by omega), sm_up_n _ _ _ _ (by omega), sm_up_n _ _ _ _ (by omega), sm_up_n _ _ _ _ (by omega), sm_up_n _ _ _ _ (by omega)]
  have v16 : sm_up (sm_up (sm_up (sm_up (sm_up (sm_up (sm_up z 16 t (nI (N t + 1))) 30 s 1) 17 s (z 32 t)) 21 s (-1)) 20 s 0) 28 s (z 32 t)) 29 s (z 32 t) 16 t = nI (N t + 1) := by
    rw [sm_up_n _ _ _ _ (by omega), sm_up_n _ _ _ _ (by omega), sm_up_n _ _ _ _ (by omega), sm_up_n _ _ _ _ (by omega), sm_up_n _ _ _ _ (by omega), sm_up_n _ _ _ _ (by omega), sm_up_y]
  have v30 : sm_up (sm_up (sm_up (sm_up (sm_up (sm_up (sm_up z 16 t (nI (N t + 1))) 30 s 1) 17 s (z 32 t)) 21 s (-1)) 20 s 0) 28 s (z 32 t)) 29 s (z 32 t) 30 s = 1 := by
    rw [sm_up_n _ _ _ _ (by omega), sm_up_n _ _ _ _ (by omega), sm_up_n _ _ _ _ (by omega), sm_up_n _ _ _ _ (by omega), sm_up_n _ _ _ _ (by omega), sm_up_y]
  have v17 : sm_up (sm_up (sm_up (sm_up (sm_up (sm_up (sm_up z 16 t (nI (N t + 1))) 30 s 1) 17 s (z 32 t)) 21 s (-1)) 20 s 0) 28 s (z 32 t)) 29 s (z 32 t) 17 s = z 32 t := by
    rw [sm_up_n _ _ _ _ (by omega), sm_up_n _ _ _ _ (by omega), sm_up_n _ _ _ _ (by omega), sm_up_n _ _ _ _ (by omega), sm_up_y]
  have v21 : sm_up (sm_up (sm_up (sm_up (sm_up (sm_up (sm_up z 16 t (nI (N t + 1))) 30 s 1) 17 s (z 32 t)) 21 s (-1)) 20 s 0) 28 s (z 32 t)) 29 s (z 32 t) 21 s = -1 := by
    rw [sm_up_n _ _ _ _ (by omega), sm_up_n _ _ _ _ (by omega), sm_up_n _ _ _ _ (by omega), sm_up_y]
  have v20 : sm_up (sm_up (sm_up (sm_up (sm_up (sm_up (sm_up z 16 t (nI (N t + 1))) 30 s 1) 17 s (z 32 t)) 21 s (-1)) 20 s 0) 28 s (z 32 t)) 29 s (z 32 t) 20 s = 0 := by
    rw [sm_up_n _ _ _ _ (by omega), sm_up_n _ _ _ _ (by omega), sm_up_y]
  have hblk : ∀ y : Int32, ((y = 4 ∧ (z 32 t < 0 ∨ ¬ z 32 t < z 4 t)) ∨ (y = 1 ∧ ¬ (z 32 t < 0 ∨ ¬ z 32 t < z 4 t) ∧ z 1 (t * 24 + (z 32 t).toNatClampNeg) = 0)) →
      post (sm_tp (sm_up (sm_up (sm_up (sm_up (sm_up (sm_up (sm_up (sm_up (sm_up (sm_up z 16 t (nI (N t + 1))) 30 s 1) 17 s (z 32 t)) 21 s (-1)) 20 s 0) 28 s (z 32 t)) 29 s (z 32 t)) 20 s y) 18 s 2) 33 t 1)) := by
    intro y hy
    generalize sm_up (sm_up (sm_up (sm_up (sm_up (sm_up (sm_up z 16 t (nI (N t + 1))) 30 s 1) 17 s (z 32 t)) 21 s (-1)) 20 s 0) 28 s (z 32 t)) 29 s (z 32 t) = z7 at *
    have u8 : ∀ jj i, ¬ ((jj = 20 ∨ jj = 18) ∧ i = s) → ¬ (jj = 33 ∧ i = t) → sm_up (sm_up (sm_up z7 20 s y) 18 s 2) 33 t 1 jj i = z7 jj i := fun jj i a1 a2 => by
      rw [sm_up_n _ _ _ _ (by omega), sm_up_n _ _ _ _ (by omega), sm_up_n _ _ _ _ (by omega)]
    have d : sm_fbk z (sm_up (sm_up (sm_up z7 20 s y) 18 s 2) 33 t 1) t s (N t) := by
      refine ⟨fun jj i a1 a2 => ?_, ?_, ?_, ?_, ?_, ?_, sm_up_y _ _ _ _, ?_⟩
      · rw [u8 jj i (by omega) (by omega), u7 jj i (by omega) (by omega)]
      · rw [u8 _ _ (by omega) (by omega), v16]
      · rw [u8 _ _ (by omega) (by omega), v30]
      · rw [u8 _ _ (by omega) (by omega), v17]
      · rw [u8 _ _ (by omega) (by omega), v21]
      · rw [sm_up_n _ _ _ _ (by omega), sm_up_y]
      · have e20 : sm_up (sm_up (sm_up z7 20 s y) 18 s 2) 33 t 1 20 s = y := by rw [sm_up_n _ _ _ _ (by omega), sm_up_n _ _ _ _ (by omega), sm_up_y]
        rw [e20]
        exact hy
    refine hp _ (sm_G2_i hj ht hcf' hs.symm (sm_J_fbk hj ht hcf' hs.symm d) (fun jj i a => d.1 jj i (by omega) (by omega)) (fun jj i a1 a2 => d.1 jj i (by omega) (by omega)) (fun i hi => d.1 31 i (by omega) (by omega)) (Or.inl ?_) (Or.inl d.2.2.2.2.2.1))
    rw [d.1 0 4 (by omega) (by omega)]
    exact hqq
  have h85 : (z 32 t < 0 ∨ ¬ z 32 t < z 4 t) → wX_fetchOne_85 post (nI t) (nI s) (sm_up (sm_up (sm_up (sm_up (sm_up (sm_up (sm_up z 16 t (nI (N t + 1))) 30 s 1) 17 s (z 32 t)) 21 s (-1)) 20 s 0) 28 s (z 32 t)) 29 s (z 32 t) 0 0) (sm_up (sm_up (sm_up (sm_up (sm_up (sm_up (sm_up z 16 t (nI (N t + 1))) 30 s 1) 17 s (z 32 t)) 21 s (-1)) 20 s 0) 28 s (z 32 t)) 29 s (z 32 t) 0 1) (sm_up (sm_up (sm_up (sm_up (sm_up (sm_up (sm_up z 16 t (nI (N t + 1))) 30 s 1) 17 s (z 32 t)) 21 s (-1)) 20 s 0) 28 s (z 32 t)) 29 s (z 32 t) 0 2) (sm_up (sm_up (sm_up (sm_up (sm_up (sm_up (sm_up z 16 t (nI (N t + 1))) 30 s 1) 17 s (z 32 t)) 21 s (-1)) 20 s 0) 28 s (z 32 t)) 29 s (z 32 t) 0 3) (sm_up (sm_up (sm_up (sm_up (sm_up (sm_up (sm_up z 16 t (nI (N t + 1))) 30 s 1) 17 s (z 32 t)) 21 s (-1)) 20 s 0) 28 s (z 32 t)) 29 s (z 32 t) 0 4) (sm_up (sm_up (sm_up (sm_up (sm_up (sm_up (sm_up z 16 t (nI (N t + 1))) 30 s 1) 17 s (z 32 t)) 21 s (-1)) 20 s 0) 28 s (z 32 t)) 29 s (z 32 t) 0 5) (sm_up (sm_up (sm_up (sm_up (sm_up (sm_up (sm_up z 16 t (nI (N t + 1))) 30 s 1) 17 s (z 32 t)) 21 s (-1)) 20 s 0) 28 s (z 32 t)) 29 s (z 32 t) 1) (sm_up (sm_up (sm_up (sm_up (sm_up (sm_up (sm_up z 16 t (nI (N t + 1))) 30 s 1) 17 s (z 32 t)) 21 s (-1)) 20 s 0) 28 s (z 32 t)) 29 s (z 32 t) 2) (sm_up (sm_up (sm_up (sm_up (sm_up (sm_up (sm_up z 16 t (nI (N t + 1))) 30 s 1) 17 s (z 32 t)) 21 s (-1)) 20 s 0) 28 s (z 32 t)) 29 s (z 32 t) 3) (sm_up (sm_up (sm_up (sm_up (sm_up (sm_up (sm_up z 16 t (nI (N t + 1))) 30 s 1) 17 s (z 32 t)) 21 s (-1)) 20 s 0) 28 s (z 32 t)) 29 s (z 32 t) 4) (sm_up (sm_up (sm_up (sm_up (sm_up (sm_up (sm_up z 16 t (nI (N t + 1))) 30 s 1) 17 s (z 32 t)) 21 s (-1)) 20 s 0) 28 s (z 32 t)) 29 s (z 32 t) 5) (sm_up (sm_up (sm_up (sm_up (sm_up (sm_up (sm_up z 16 t (nI (N t + 1))) 30 s 1) 17 s (z 32 t)) 21 s (-1)) 20 s 0) 28 s (z 32 t)) 29 s (z 32 t) 6) (sm_up (sm_up (sm_up (sm_up (sm_up (sm_up (sm_up z 16 t (nI (N t + 1))) 30 s 1) 17 s (z 32 t)) 21 s (-1)) 20 s 0) 28 s (z 32 t)) 29 s (z 32 t) 7) (sm_up (sm_up (sm_up (sm_up (sm_up (sm_up (sm_up z 16 t (nI (N t + 1))) 30 s 1) 17 s (z 32 t)) 21 s (-1)) 20 s 0) 28 s (z 32 t)) 29 s (z 32 t) 8) (sm_up (sm_up (sm_up (sm_up (sm_up (sm_up (sm_up z 16 t (nI (N t + 1))) 30 s 1) 17 s (z 32 t)) 21 s (-1)) 20 s 0) 28 s (z 32 t)) 29 s (z 32 t) 9) (sm_up (sm_up (sm_up (sm_up (sm_up (sm_up (sm_up z 16 t (nI (N t + 1))) 30 s 1) 17 s (z 32 t)) 21 s (-1)) 20 s 0) 28 s (z 32 t)) 29 s (z 32 t) 10) (sm_up (sm_up (sm_up (sm_up (sm_up (sm_up (sm_up z 16 t (nI (N t + 1))) 30 s 1) 17 s (z 32 t)) 21 s (-1)) 20 s 0) 28 s (z 32 t)) 29 s (z 32 t) 11) (sm_up (sm_up (sm_up (sm_up (sm_up (sm_up (sm_up z 16 t (nI (N t + 1))) 30 s 1) 17 s (z 32 t)) 21 s (-1)) 20 s 0) 28 s (z 32 t)) 29 s (z 32 t) 12) (sm_up (sm_up (sm_up (sm_up (sm_up (sm_up (sm_up z 16 t (nI (N t + 1))) 30 s 1) 17 s (z 32 t)) 21 s (-1)) 20 s 0) 28 s (z 32 t)) 29 s (z 32 t) 13) (sm_up (sm_up (sm_up (sm_up (sm_up (sm_up (sm_up z 16 t (nI (N t + 1))) 30 s 1) 17 s (z 32 t)) 21 s (-1)) 20 s 0) 28 s (z 32 t)) 29 s (z 32 t) 14) (sm_up (sm_up (sm_up (sm_up (sm_up (sm_up (sm_up z 16 t (nI (N t + 1))) 30 s 1) 17 s (z 32 t)) 21 s (-1)) 20 s 0) 28 s (z 32 t)) 29 s (z 32 t) 15) (sm_up (sm_up (sm_up (sm_up (sm_up (sm_up (sm_up z 16 t (nI (N t + 1))) 30 s 1) 17 s (z 32 t)) 21 s (-1)) 20 s 0) 28 s (z 32 t)) 29 s (z 32 t) 16) (sm_up (sm_up (sm_up (sm_up (sm_up (sm_up (sm_up z 16 t (nI (N t + 1))) 30 s 1) 17 s (z 32 t)) 21 s (-1)) 20 s 0) 28 s (z 32 t)) 29 s (z 32 t) 17) (sm_up (sm_up (sm_up (sm_up (sm_up (sm_up (sm_up z 16 t (nI (N t + 1))) 30 s 1) 17 s (z 32 t)) 21 s (-1)) 20 s 0) 28 s (z 32 t)) 29 s (z 32 t) 18) (sm_up (sm_up (sm_up (sm_up (sm_up (sm_up (sm_up z 16 t (nI (N t + 1))) 30 s 1) 17 s (z 32 t)) 21 s (-1)) 20 s 0) 28 s (z 32 t)) 29 s (z 32 t) 19) (sm_up (sm_up (sm_up (sm_up (sm_up (sm_up (sm_up z 16 t (nI (N t + 1))) 30 s 1) 17 s (z 32 t)) 21 s (-1)) 20 s 0) 28 s (z 32 t)) 29 s (z 32 t) 20) (sm_up (sm_up (sm_up (sm_up (sm_up (sm_up (sm_up z 16 t (nI (N t + 1))) 30 s 1) 17 s (z 32 t)) 21 s (-1)) 20 s 0) 28 s (z 32 t)) 29 s (z 32 t) 21) (sm_up (sm_up (sm_up (sm_up (sm_up (sm_up (sm_up z 16 t (nI (N t + 1))) 30 s 1) 17 s (z 32 t)) 21 s (-1)) 20 s 0) 28 s (z 32 t)) 29 s (z 32 t) 22) (sm_up (sm_up (sm_up (sm_up (sm_up (sm_up (sm_up z 16 t (nI (N t + 1))) 30 s 1) 17 s (z 32 t)) 21 s (-1)) 20 s 0) 28 s (z 32 t)) 29 s (z 32 t) 23) (sm_up (sm_up (sm_up (sm_up (sm_up (sm_up (sm_up z 16 t (nI (N t + 1))) 30 s 1) 17 s (z 32 t)) 21 s (-1)) 20 s 0) 28 s (z 32 t)) 29 s (z 32 t) 24) (sm_up (sm_up (sm_up (sm_up (sm_up (sm_up (sm_up z 16 t (nI (N t + 1))) 30 s 1) 17 s (z 32 t)) 21 s (-1)) 20 s 0) 28 s (z 32 t)) 29 s (z 32 t) 25) (sm_up (sm_up (sm_up (sm_up (sm_up (sm_up (sm_up z 16 t (nI (N t + 1))) 30 s 1) 17 s (z 32 t)) 21 s (-1)) 20 s 0) 28 s (z 32 t)) 29 s (z 32 t) 26) (sm_up (sm_up (sm_up (sm_up (sm_up (sm_up (sm_up z 16 t (nI (N t + 1))) 30 s 1) 17 s (z 32 t)) 21 s (-1)) 20 s 0) 28 s (z 32 t)) 29 s (z 32 t) 27) (sm_up (sm_up (sm_up (sm_up (sm_up (sm_up (sm_up z 16 t (nI (N t + 1))) 30 s 1) 17 s (z 32 t)) 21 s (-1)) 20 s 0) 28 s (z 32 t)) 29 s (z 32 t) 28) (sm_up (sm_up (sm_up (sm_up (sm_up (sm_up (sm_up z 16 t (nI (N t + 1))) 30 s 1) 17 s (z 32 t)) 21 s (-1)) 20 s 0) 28 s (z 32 t)) 29 s (z 32 t) 29) (sm_up (sm_up (sm_up (sm_up (sm_up (sm_up (sm_up z 16 t (nI (N t + 1))) 30 s 1) 17 s (z 32 t)) 21 s (-1)) 20 s 0) 28 s (z 32 t)) 29 s (z 32 t) 30) (sm_up (sm_up (sm_up (sm_up (sm_up (sm_up (sm_up z 16 t (nI (N t + 1))) 30 s 1) 17 s (z 32 t)) 21 s (-1)) 20 s 0) 28 s (z 32 t)) 29 s (z 32 t) 31) (sm_up (sm_up (sm_up (sm_up (sm_up (sm_up (sm_up z 16 t (nI (N t + 1))) 30 s 1) 17 s (z 32 t)) 21 s (-1)) 20 s 0) 28 s (z 32 t)) 29 s (z 32 t) 32) (sm_up (sm_up (sm_up (sm_up (sm_up (sm_up (sm_up z 16 t (nI (N t + 1))) 30 s 1) 17 s (z 32 t)) 21 s (-1)) 20 s 0) 28 s (z 32 t)) 29 s (z 32 t) 33) (sm_up (sm_up (sm_up (sm_up (sm_up (sm_up (sm_up z 16 t (nI (N t + 1))) 30 s 1) 17 s (z 32 t)) 21 s (-1)) 20 s 0) 28 s (z 32 t)) 29 s (z 32 t) 34) (sm_up (sm_up (sm_up (sm_up (sm_up (sm_up (sm_up z 16 t (nI (N t + 1))) 30 s 1) 17 s (z 32 t)) 21 s (-1)) 20 s 0) 28 s (z 32 t)) 29 s (z 32 t) 35) (sm_up (sm_up (sm_up (sm_up (sm_up (sm_up (sm_up z 16 t (nI (N t + 1))) 30 s 1) 17 s (z 32 t)) 21 s (-1)) 20 s 0) 28 s (z 32 t)) 29 s (z 32 t) 36) (sm_up (sm_up (sm_up (sm_up (sm_up (sm_up (sm_up z 16 t (nI (N t + 1))) 30 s 1) 17 s (z 32 t)) 21 s (-1)) 20 s 0) 28 s (z 32 t)) 29 s (z 32 t) 37) := by
    intro hb
    unfold wX_fetchOne_85
    exact sm_w_blk (by omega) hs48 (hblk 4 (Or.inl ⟨rfl, hb⟩))
  refine br_c (fun hneg => h85 (Or.inl hneg)) (fun hneg => ⟨it, br_c (fun hsz => ?_) (fun hsz => h85 (Or.inr hsz))⟩)
  obtain ⟨p, hpb, e32⟩ := nI_of hneg
  obtain ⟨msz, hm24, em⟩ := hprm.2.2.2.2.2.2.2.2.2 t ht
  have hp24 : p < 24 := by
    rw [e32, em, nI_ltI (by omega) (by omega)] at hsz
    omega
  have e24 : nI t * 24 + z 32 t = nI (t * 24 + p) := by rw [e32, show (24 : Int32) = nI 24 from rfl, pk_mul, nI_add]
  have ec : (z 32 t).toNatClampNeg = p := by rw [e32, nI_clamp (by omega)]
  rw [e24, nI_clamp (show t * 24 + p < 2 ^ 31 by omega)]
  refine ⟨vp_in_nI (by omega) (by decide), br_c (fun h0 => ?_) (fun h0 => ?_)⟩
  · refine sm_w_blk (z := sm_up (sm_up (sm_up (sm_up (sm_up (sm_up (sm_up z 16 t (nI (N t + 1))) 30 s 1) 17 s (z 32 t)) 21 s (-1)) 20 s 0) 28 s (z 32 t)) 29 s (z 32 t)) (by omega) hs48 (hblk 1 (Or.inr ⟨rfl, fun h => h.elim hneg (fun h => h hsz), ?_⟩))
    rw [ec]
    exact h0
  · generalize hz7 : sm_up (sm_up (sm_up (sm_up (sm_up (sm_up (sm_up z 16 t (nI (N t + 1))) 30 s 1) 17 s (z 32 t)) 21 s (-1)) 20 s 0) 28 s (z 32 t)) 29 s (z 32 t) = z7 at *
    have ren : wpX_rename post (sm_tp z7) (nI t) (nI s) (nI p) := by
      have x1 : ∀ i, z7 1 i = z 1 i := fun i => u7 1 i (by omega) (by omega)
      have x2 : ∀ i, z7 2 i = z 2 i := fun i => u7 2 i (by omega) (by omega)
      have x12 : ∀ i, z7 12 i = z 12 i := fun i => u7 12 i (by omega) (by omega)
      have x14 : ∀ i, z7 14 i = z 14 i := fun i => u7 14 i (by omega) (by omega)
      refine sm_w_ren (q := q) (ft := ft) (o := z 1 (t * 24 + p)) (g := z 2 (t * 24 + p)) (by omega) hs48 hp24 f4 (by rw [u7 0 4 (by omega) (by omega)]; exact hqq) f5 (by omega) (by rw [u7 0 3 (by omega) (by omega)]; exact hft) (by rw [x12]; exact (hrg.1 (ft - 1) (by omega)).1) (x1 _) (x2 _) (fun z' f a18 a24 a25 a31 a04 a29 aw an => ?_)
      rw [x12] at f aw
      rw [x14] at a24 a25 aw
      have d : sm_frn z z' t s (N t) q ft p (z 1 (t * 24 + p)) (z 2 (t * 24 + p)) := by
        refine ⟨fun jj i b1 b2 b3 b4 b5 => ?_, ?_, ?_, ?_, a18, ?_, a24, a25, a31, a04, a29, aw, fun nw => ?_⟩
        · rw [f jj i (by omega) (by omega) b3 b4 b5, u7 jj i (by omega) (by omega)]
        · rw [f 16 t (by omega) (by omega) (by omega) (by omega) (fun _ => ⟨by omega, by omega, by omega⟩), v16]
        · rw [f 30 s (by omega) (by omega) (by omega) (by omega) (fun _ => ⟨by omega, by omega, by omega⟩), v30]
        · rw [f 17 s (by omega) (by omega) (by omega) (by omega) (fun _ => ⟨by omega, by omega, by omega⟩), v17, e32]
        · rw [f 20 s (by omega) (by omega) (by omega) (by omega) (fun _ => ⟨by omega, by omega, by omega⟩), v20]
        · rw [an nw, v21]
      refine hp z' (sm_G2_i hj ht hcf' hs.symm (sm_J_frn hj ht hcf' hs.symm e32 hp24 (by rw [← e32]; exact hsz) rfl rfl h0 d) (fun jj i a => ?_) (fun jj i b1 b2 => ?_) (fun i hi => ?_) (Or.inr ⟨a04, a31⟩) (Or.inr ⟨a18, a04, a31⟩))
      · exact d.1 jj i (by omega) (by omega) (by omega) (by omega) (fun _ => ⟨by omega, by omega, by omega⟩)
      · exact d.1 jj i (by omega) (by omega) (by omega) (by omega) (fun _ => ⟨by omega, by omega, by omega⟩)
      · exact d.1 31 i (by omega) (by omega) (by omega) (by omega) (fun _ => ⟨by omega, by omega, by omega⟩)
    rw [← e32] at ren
    subst hz7
    exact ren
end
section
/-! the fetch stage -/
theorem sm_w_cfJ {post : Int32 → Prop} {T W V ex : Nat} {F : Nat → sm_A} {z : sm_Z} {H N : Nat → Nat} {R M P : Nat → Nat → Nat → Int32} {own : Nat → Nat} {ft q : Nat} (j : sm_J T W V ex F z H N R M P own ft q)
    {t : Nat} (ht : t < T) (h1 : sm_cf V z t (N t) q ft → post 1) (h0 : ¬ sm_cf V z t (N t) q ft → post 0) : wpX_canFetch post (sm_tp z) (nI t) := by
  obtain ⟨hprm, c, hqs, hctl⟩ := j
  obtain ⟨p1, p2, p3, p4, p5, p6, p7, p8, p9, p10⟩ := hprm
  obtain ⟨hT, hex, hth, hrg, hft, hcn, hlv, hqq, q1, q2, q3, q4⟩ := c
  obtain ⟨c1, c2, c3, c4, c5, c6, c7, c8, c9⟩ := hth t ht
  exact sm_w_cf (V := V) (n := N t) (q := q) (ft := ft) (by omega) p9 c4 q1 (by omega) p7 c3 hqq hft h1 h0
theorem sm_fetS_54 {post : St2 → Prop} {T W V ex : Nat} {F : Nat → sm_A} {m mm : Nat → Nat} {z0 : sm_Z} {H : Nat → Nat} {b : Nat} (hb : b < T) (hmb : mm b ≤ m b) (hmo : ∀ t, t ≠ b → mm t = m t)
    (hp : ∀ (z' : sm_Z) (N' : Nat → Nat), sm_K T W V ex F z' H N' → sm_stc z0 z' → (∀ t, t < T → sm_rk 2 2 7 23 z' t (H t) (N' t) (mm t)) → post (sm_tp z')) :
    ∀ (r x : Nat) (z : sm_Z) (N : Nat → Nat) (R M P : Nat → Nat → Nat → Int32) (own : Nat → Nat) (ft q : Nat), W - x = r → x ≤ W → sm_J T W V ex F z H N R M P own ft q → sm_stc z0 z →
      ((x = 0 ∧ (∀ t, t < T → sm_rk 2 2 7 23 z t (H t) (N t) (m t)) ∧ sm_cf V z b (N b) q ft ∧ (N b = 0 → mm b = m b - 1) ∧ (0 < N b → mm b = m b)) ∨
       (0 < x ∧ (∀ t, t < T → sm_rk 2 2 7 23 z t (H t) (N t) (mm t)) ∧ 0 < N b)) →
      wX_fetchStage_54 post (nI b) (r + 1) (nI x) (z 0 0) (z 0 1) (z 0 2) (z 0 3) (z 0 4) (z 0 5) (z 1) (z 2) (z 3) (z 4) (z 5) (z 6) (z 7) (z 8) (z 9) (z 10) (z 11) (z 12) (z 13) (z 14) (z 15) (z 16) (z 17) (z 18) (z 19) (z 20) (z 21) (z 22) (z 23) (z 24) (z 25) (z 26) (z 27) (z 28) (z 29) (z 30) (z 31) (z 32) (z 33) (z 34) (z 35) (z 36) (z 37) := by
  intro r
  induction r with
  | zero =>
    intro x z N R M P own ft q hr hx j st g
    have hW := j.1.2.2.2
    refine br_t ?_ ?_
    · rw [hW.1, nI_leI (by omega) (by omega)]
      omega
    · rcases g with ⟨g, _⟩ | ⟨_, g, _⟩
      · omega
      · exact hp z N ⟨R, M, P, own, ft, q, j⟩ st g
  | succ r ih =>
    intro x z N R M P own ft q hr hx j st g
    have hW := j.1.2.2.2
    refine br_f ?_ ?_
    · rw [hW.1, nI_leI (by omega) (by omega)]
      omega
    · refine sm_w_cfJ j hb (fun cf => br_f (by decide) ?_) (fun ncf => br_t rfl ?_)
      · refine sm_w_ft1 j hb cf (fun z' g2 => nm_r (nI_1 x) ?_)
        obtain ⟨k1, k2, k3, k4⟩ := g2
        obtain ⟨R', M', P', own', ft', q', j'⟩ := k1
        refine ih (x + 1) z' _ R' M' P' own' ft' q' (by omega) (by omega) j' (sm_stc_t st k2) (Or.inr ⟨by omega, fun t ht => ?_, by rw [sm_fn_y]; omega⟩)
        rcases g with ⟨_, g1, _, g3, g4⟩ | ⟨_, g1, g3⟩
        · by_cases e : t = b
          · subst e
            rcases Nat.eq_zero_or_pos (N t) with h0 | h0
            · rw [g3 h0]
              exact k4 h0 _ (g1 t ht)
            · rw [g4 h0]
              exact k3 t ht (Or.inr h0) _ _ _ _ _ (g1 t ht)
          · rw [hmo t e]
            exact k3 t ht (Or.inl e) _ _ _ _ _ (g1 t ht)
        · exact k3 t ht (Or.inr g3) _ _ _ _ _ (g1 t ht)
      · rcases g with ⟨_, _, g, _⟩ | ⟨_, g, _⟩
        · exact absurd g ncf
        · exact hp z N ⟨R, M, P, own, ft, q, j⟩ st g
theorem sm_fetS_4 {post : St2 → Prop} {T W V ex : Nat} {F : Nat → sm_A} {z : sm_Z} {H N : Nat → Nat} {R M P : Nat → Nat → Nat → Int32} {own : Nat → Nat} {ft q : Nat} (j : sm_J T W V ex F z H N R M P own ft q)
    (h0 : (∀ t, t < T → ¬ sm_cf V z t (N t) q ft) → post (sm_tp z))
    (h1 : ∀ b, b < T → sm_cf V z b (N b) q ft → (∀ t, t < T → sm_cf V z t (N t) q ft → N b ≤ N t) → ∃ fu, wX_fetchStage_54 post (nI b) fu 0 (z 0 0) (z 0 1) (z 0 2) (z 0 3) (z 0 4) (z 0 5) (z 1) (z 2) (z 3) (z 4) (z 5) (z 6) (z 7) (z 8) (z 9) (z 10) (z 11) (z 12) (z 13) (z 14) (z 15) (z 16) (z 17) (z 18) (z 19) (z 20) (z 21) (z 22) (z 23) (z 24) (z 25) (z 26) (z 27) (z 28) (z 29) (z 30) (z 31) (z 32) (z 33) (z 34) (z 35) (z 36) (z 37)) :
    ∀ (r t : Nat) (x : Int32), T - t = r → t ≤ T → ((x = -1 ∧ ∀ t', t' < t → ¬ sm_cf V z t' (N t') q ft) ∨ ∃ b, b < t ∧ x = nI b ∧ sm_cf V z b (N b) q ft ∧ ∀ t', t' < t → sm_cf V z t' (N t') q ft → N b ≤ N t') →
      wX_fetchStage_4 post (z 0 0) (z 0 1) (z 0 2) (z 0 3) (z 0 4) (z 0 5) (z 1) (z 2) (z 3) (z 4) (z 5) (z 6) (z 7) (z 8) (z 9) (z 10) (z 11) (z 12) (z 13) (z 14) (z 15) (z 16) (z 17) (z 18) (z 19) (z 20) (z 21) (z 22) (z 23) (z 24) (z 25) (z 26) (z 27) (z 28) (z 29) (z 30) (z 31) (z 32) (z 33) (z 34) (z 35) (z 36) (z 37) (r + 1) x (nI t) := by
  have hT := j.1
  have hT4 := j.1.2.2.1
  have h16 : ∀ t, t < T → z 16 t = nI (N t) ∧ N t ≤ 12 := fun t ht => by
    obtain ⟨c1, c2, c3, c4, _⟩ := j.2.1.2.2.1 t ht
    exact ⟨c3, c4⟩
  intro r
  induction r with
  | zero =>
    intro t x hr hx g
    have e : t = T := by omega
    subst e
    refine br_t ?_ ?_
    · rw [hT.1, nI_leI (by omega) (by omega)]
      exact Nat.le_refl _
    · rcases g with ⟨e, g⟩ | ⟨b, g1, e, g2, g3⟩
      · subst e
        exact br_f (by decide) (h0 g)
      · subst e
        exact br_t (nI_pos' (by omega)) (h1 b g1 g2 g3)
  | succ r ih =>
    intro t x hr hx g
    have ht : t < T := by omega
    have it := vp_in_nI (show t < 4 by omega) (show 4 < 2 ^ 31 by decide)
    refine br_f ?_ ?_
    · rw [hT.1, nI_leI (by omega) (by omega)]
      omega
    · refine sm_w_cfJ j ht (fun cf => br_f (by decide) ?_) (fun ncf => br_t rfl (nm_r (nI_1 t) (ih (t + 1) x (by omega) (by omega) ?_)))
      · rcases g with ⟨e, g⟩ | ⟨b, g1, e, g2, g3⟩
        · subst e
          refine br_t (by decide) (nm_r (nI_1 t) (ih (t + 1) (nI t) (by omega) (by omega) (Or.inr ⟨t, by omega, rfl, cf, fun t' ht' c' => ?_⟩)))
          by_cases e : t' = t
          · subst e
            exact Nat.le_refl _
          · exact absurd c' (g t' (by omega))
        · subst e
          obtain ⟨a1, a2⟩ := h16 t ht
          obtain ⟨b1, b2⟩ := h16 b (by omega)
          refine br_f (nI_pos (by omega)) ⟨it, vp_in_nI (by omega) (by decide), ?_⟩
          rw [nI_clamp (show t < 2 ^ 31 by omega), nI_clamp (show b < 2 ^ 31 by omega)]
          refine pk_le (N b) (N t) (fun h => nm_r (nI_1 t) (ih (t + 1) (nI b) (by omega) (by omega) (Or.inr ⟨b, by omega, rfl, g2, fun t' ht' c' => ?_⟩))) (fun h => nm_r (nI_1 t) (ih (t + 1) (nI t) (by omega) (by omega) (Or.inr ⟨t, by omega, rfl, cf, fun t' ht' c' => ?_⟩))) (hx := b1) (hy := a1)
          · by_cases e : t' = t
            · subst e
              exact h
            · exact g3 t' (by omega) c'
          · by_cases e : t' = t
            · subst e
              exact Nat.le_refl _
            · have := g3 t' (by omega) c'
              omega
      · rcases g with ⟨e, g⟩ | ⟨b, g1, e, g2, g3⟩
        · refine Or.inl ⟨e, fun t' ht' => ?_⟩
          by_cases e : t' = t
          · subst e
            exact ncf
          · exact g t' (by omega)
        · refine Or.inr ⟨b, by omega, e, g2, fun t' ht' c' => ?_⟩
          by_cases e : t' = t
          · subst e
            exact absurd c' ncf
          · exact g3 t' (by omega) c'
theorem sm_w_fetS {post : St2 → Prop} {T W V ex : Nat} {F : Nat → sm_A} {m : Nat → Nat} {z : sm_Z} {H N : Nat → Nat} {R M P : Nat → Nat → Nat → Int32} {own : Nat → Nat} {ft q : Nat} (j : sm_J T W V ex F z H N R M P own ft q)
    (hm : ∀ t, t < T → sm_rk 2 2 7 23 z t (H t) (N t) (m t))
    (hp : ∀ (z' : sm_Z) (N' mm : Nat → Nat), sm_K T W V ex F z' H N' → sm_stc z z' → (∀ t, t < T → sm_rk 2 2 7 23 z' t (H t) (N' t) (mm t)) → (∀ t, mm t ≤ m t) →
      ((∃ t, t < T ∧ sm_cf V z t (N t) q ft ∧ N t = 0) → ∃ b, b < T ∧ z 36 b ≠ 0 ∧ N b = 0 ∧ mm b = m b - 1) → post (sm_tp z')) : wpX_fetchStage post (sm_tp z) := by
  have hW := j.1.2.2.2
  refine ⟨T + 1, sm_fetS_4 j (fun h => ?_) (fun b hb cf hmin => ⟨W + 1, ?_⟩) T 0 (-1) (by omega) (by omega) (Or.inl ⟨rfl, fun t' h => absurd h (by omega)⟩)⟩
  · exact hp z N m ⟨R, M, P, own, ft, q, j⟩ (sm_stc_r z) hm (fun _ => Nat.le_refl _) (fun ⟨t, h1, h2, _⟩ => absurd h2 (h t h1))
  · refine sm_fetS_54 (m := m) (mm := fun t => if t = b ∧ N b = 0 then m b - 1 else m t) (z0 := z) hb ?_ (fun t ht => if_neg (fun h => ht h.1)) (fun z' N' k st g => hp z' N' _ k st g (fun t => ?_) (fun ⟨t, h1, h2, h3⟩ => ?_)) W 0 z N R M P own ft q (by omega) (by omega) j (sm_stc_r z) (Or.inl ⟨rfl, hm, cf, fun h0 => if_pos ⟨rfl, h0⟩, fun h0 => if_neg (fun h => by omega)⟩)
    · try dsimp only
      split <;> omega
    · try dsimp only
      split
      · rename_i h
        rw [h.1]
        omega
      · exact Nat.le_refl _
    · have h0 : N b = 0 := by
        have := hmin t h1 h2
        omega
      exact ⟨b, hb, cf.1, h0, if_pos ⟨rfl, h0⟩⟩
end
section
/-! the clock -/
theorem sm_any_loop {post : Int32 → Prop} {T : Nat} {z : sm_Z} (hT : z 0 0 = nI T) (hT4 : T ≤ 4) (h1 : (∃ t, t < T ∧ z 36 t ≠ 0) → post 1) (h0 : (∀ t, t < T → z 36 t = 0) → post 0) :
    ∀ (r t : Nat) (x : Int32), T - t = r → t ≤ T → ((x = 0 ∧ ∀ t', t' < t → z 36 t' = 0) ∨ (x = 1 ∧ ∃ t', t' < T ∧ z 36 t' ≠ 0)) → wX_anyActive_4 post (z 0 0) (z 0 1) (z 0 2) (z 0 3) (z 0 4) (z 0 5) (z 1) (z 2) (z 3) (z 4) (z 5) (z 6) (z 7) (z 8) (z 9) (z 10) (z 11) (z 12) (z 13) (z 14) (z 15) (z 16) (z 17) (z 18) (z 19) (z 20) (z 21) (z 22) (z 23) (z 24) (z 25) (z 26) (z 27) (z 28) (z 29) (z 30) (z 31) (z 32) (z 33) (z 34) (z 35) (z 36) (z 37) (r + 1) x (nI t) := by
  intro r
  induction r with
  | zero =>
    intro t x hr hx g
    have e : t = T := by omega
    subst e
    refine br_t ?_ ?_
    · rw [hT, nI_leI (by omega) (by omega)]
      exact Nat.le_refl _
    · rcases g with ⟨e, g⟩ | ⟨e, g⟩
      · subst e
        exact ⟨sm_nbool 0 (Or.inl rfl), h0 g⟩
      · subst e
        exact ⟨sm_nbool 1 (Or.inr rfl), h1 g⟩
  | succ r ih =>
    intro t x hr hx g
    refine br_f ?_ ?_
    · rw [hT, nI_leI (by omega) (by omega)]
      omega
    · rcases g with ⟨e, g⟩ | ⟨e, g⟩
      · subst e
        refine br_t rfl ⟨vp_in_nI (by omega) (by decide), ?_⟩
        rw [nI_clamp (show t < 2 ^ 31 by omega)]
        refine br_c (fun h => nm_r (nI_1 t) (ih (t + 1) 0 (by omega) (by omega) (Or.inl ⟨rfl, fun t' ht' => ?_⟩))) (fun h => nm_r (nI_1 t) (ih (t + 1) 1 (by omega) (by omega) (Or.inr ⟨rfl, t, by omega, h⟩)))
        by_cases e : t' = t
        · subst e
          exact h
        · exact g t' (by omega)
      · subst e
        exact br_f (by decide) (nm_r (nI_1 t) (ih (t + 1) 1 (by omega) (by omega) (Or.inr ⟨rfl, g⟩)))
theorem sm_w_any {post : Int32 → Prop} {T : Nat} {z : sm_Z} (hT : z 0 0 = nI T) (hT4 : T ≤ 4) (h1 : (∃ t, t < T ∧ z 36 t ≠ 0) → post 1) (h0 : (∀ t, t < T → z 36 t = 0) → post 0) : wpX_anyActive post (sm_tp z) :=
  ⟨T + 1, sm_any_loop hT hT4 h1 h0 T 0 0 (by omega) (by omega) (Or.inl ⟨rfl, fun t' h => absurd h (by omega)⟩)⟩
theorem sm_c45 {post : Int32 → St2 → Prop} {T W V ex : Nat} {F : Nat → sm_A} {z0 : sm_Z}
    (hp : ∀ (z' : sm_Z) (H N : Nat → Nat) (x : Int32), sm_K T W V ex F z' H N → sm_stc z0 z' → (∀ t, t < T → z' 36 t = 0) → post x (sm_tp z')) :
    ∀ (r t : Nat) (z : sm_Z) (H N : Nat → Nat), T - t = r → t ≤ T → sm_K T W V ex F z H N → sm_stc z0 z → (∀ t, t < T → z 36 t = 0) → wX_cycles_45 post (r + 1) (nI t) (z 0 0) (z 0 1) (z 0 2) (z 0 3) (z 0 4) (z 0 5) (z 1) (z 2) (z 3) (z 4) (z 5) (z 6) (z 7) (z 8) (z 9) (z 10) (z 11) (z 12) (z 13) (z 14) (z 15) (z 16) (z 17) (z 18) (z 19) (z 20) (z 21) (z 22) (z 23) (z 24) (z 25) (z 26) (z 27) (z 28) (z 29) (z 30) (z 31) (z 32) (z 33) (z 34) (z 35) (z 36) (z 37) := by
  intro r
  induction r with
  | zero =>
    intro t z H N hr hx k st g
    obtain ⟨R, M, P, own, ft, q, j⟩ := k
    have hT := j.1
    have hT4 := j.1.2.2.1
    have e : t = T := by omega
    subst e
    refine br_t ?_ (hp z H N _ ⟨R, M, P, own, ft, q, j⟩ st g)
    rw [hT.1, nI_leI (by omega) (by omega)]
    exact Nat.le_refl _
  | succ r ih =>
    intro t z H N hr hx k st g
    obtain ⟨R, M, P, own, ft, q, j⟩ := k
    have hT := j.1
    have hT4 := j.1.2.2.1
    have ht : t < T := by omega
    have hfin := (j.2.2.2 t ht).2.2
    refine br_f ?_ ?_
    · rw [hT.1, nI_leI (by omega) (by omega)]
      omega
    · refine sm_w_stop j.2.1 ht (fun z1 own1 ft1 q1 k1 k2 k3 k4 => nm_r (nI_1 t) ?_)
      have hF : (R t 0, M t 0, z 7 t, z 6 t, z 8 t, z 9 t) = F t := by
        rcases hfin with ⟨_, _, a⟩ | ⟨a, _⟩
        · exact a
        · rw [g t ht] at a
          exact absurd a (by decide)
      refine ih (t + 1) (sm_up z1 36 t 0) H (sm_fn N t 0) (by omega) (by omega) ⟨R, M, P, own1, ft1, q1, sm_J_stop j.1 (fun t' h _ => j.2.2.2 t' h) hF k1 k2 k3⟩ (sm_stc_t st (sm_stc_stop k3)) (fun t' ht' => ?_)
      by_cases e : t' = t
      · subst e
        exact sm_up_y _ _ _ _
      · rw [sm_up_n _ _ _ _ (by omega), k3.1 36 t' (by omega) (by omega) (by omega) (by omega) (by omega) (by omega) (by omega)]
        exact g t' ht'
/-- an active thread's rank is positive -/
theorem sm_rk_pos {e2 e1 e0 ee : Nat} {z : sm_Z} {t h n m : Nat} (h : sm_rk e2 e1 e0 ee z t h n m) (ha : z 36 t ≠ 0) : (n = 0 → ee ≤ m) ∧ (0 < n → e2 ≤ m ∨ e1 + 1 ≤ m ∨ e0 ≤ m) := by
  rcases h with h | ⟨qa, g1, g2, ⟨g3, g4⟩ | ⟨g3, ⟨g4, g5⟩ | ⟨g4, τ, g5, g6, g7, g8⟩ | ⟨g4, i, g5, g6⟩⟩⟩
  · exact absurd h ha
  · exact ⟨fun _ => by omega, fun h => by omega⟩
  · exact ⟨fun h => by omega, fun _ => Or.inl (by omega)⟩
  · exact ⟨fun h => by omega, fun _ => Or.inr (Or.inl (by omega))⟩
  · exact ⟨fun h => by omega, fun _ => Or.inr (Or.inr (by omega))⟩
def sm_sum (m : Nat → Nat) : Nat → Nat
  | 0 => 0
  | n + 1 => sm_sum m n + m n
theorem sm_sum_le {a b : Nat → Nat} : ∀ n, (∀ t, t < n → a t ≤ b t) → sm_sum a n ≤ sm_sum b n
  | 0, _ => Nat.le_refl _
  | n + 1, h => by
    have := sm_sum_le n (fun t ht => h t (by omega))
    have := h n (by omega)
    show sm_sum a n + a n ≤ sm_sum b n + b n
    omega
theorem sm_sum_lt {a b : Nat → Nat} {s : Nat} : ∀ n, (∀ t, t < n → a t ≤ b t) → s < n → a s < b s → sm_sum a n < sm_sum b n
  | 0, _, h, _ => absurd h (by omega)
  | n + 1, h, hs, hl => by
    show sm_sum a n + a n < sm_sum b n + b n
    have h1 := h n (by omega)
    by_cases e : s = n
    · subst e
      have := sm_sum_le s (fun t ht => h t (by omega))
      omega
    · have := sm_sum_lt n (fun t ht => h t (by omega)) (by omega) hl
      omega
/-- at an idle core a fetch is free -/
theorem sm_cf_free {T W V ex : Nat} {F : Nat → sm_A} {z : sm_Z} {H N : Nat → Nat} {R M P : Nat → Nat → Nat → Int32} {own : Nat → Nat} {ft q : Nat} (j : sm_J T W V ex F z H N R M P own ft q) (hex : 1 ≤ ex)
    (h0 : ∀ t, t < T → N t = 0) {t : Nat} (ht : t < T) (ha : z 36 t ≠ 0) : sm_cf V z t (N t) q ft := by
  obtain ⟨hprm, c, hqs, hctl⟩ := j
  obtain ⟨hT, hex', hth, hrg, hft, hcn, hlv, hqq, q1, q2, q3, q4⟩ := c
  have hV := hprm.2.2.2.2.2.2.2.1
  have nl : ∀ s, s < 48 → z 30 s = 0 := fun s hs => Classical.byContradiction fun hl => by
    obtain ⟨t', k', h1, h2, _⟩ := hlv s hs hl
    have := h0 t' h1
    omega
  refine ⟨ha, ?_, by have := h0 t ht; omega, ?_, ?_⟩
  · rcases (hctl t ht).2.1 ha with ⟨b, _⟩ | ⟨_, k, b, _⟩
    · exact b
    · have := h0 t ht
      omega
  · rcases Nat.eq_zero_or_pos q with h | h
    · omega
    · have := (hqs 0 h).1
      exact absurd (nl _ (sm_cl_lt (q2 0 h))) this
  · have : sm_cnt (z 21) (z 30) 48 = sm_cnt (fun _ => 0) (fun _ => 0) 48 := sm_cnt_eq 48 (fun i hi => by
      unfold sm_wt
      rw [if_pos (Or.inl (nl i hi)), if_pos (Or.inl rfl)])
    have z0 : sm_cnt (fun _ => 0) (fun _ => 0) 48 = 0 := by decide
    omega
theorem sm_c7 {post : Int32 → St2 → Prop} {T W V ex : Nat} {F : Nat → sm_A} {z0 : sm_Z} (hex : 1 ≤ ex)
    (hp : ∀ (z' : sm_Z) (H N : Nat → Nat) (x : Int32), sm_K T W V ex F z' H N → sm_stc z0 z' → (∀ t, t < T → z' 36 t = 0) → post x (sm_tp z')) :
    ∀ (B x : Nat) (z : sm_Z) (H N m : Nat → Nat), x + B < 16000 → sm_K T W V ex F z H N → sm_stc z0 z → (∀ t, t < T → sm_rk 1 1 6 22 z t (H t) (N t) (m t)) → sm_sum m T ≤ B → wX_cycles_7 post (B + 1) (nI x) (z 0 0) (z 0 1) (z 0 2) (z 0 3) (z 0 4) (z 0 5) (z 1) (z 2) (z 3) (z 4) (z 5) (z 6) (z 7) (z 8) (z 9) (z 10) (z 11) (z 12) (z 13) (z 14) (z 15) (z 16) (z 17) (z 18) (z 19) (z 20) (z 21) (z 22) (z 23) (z 24) (z 25) (z 26) (z 27) (z 28) (z 29) (z 30) (z 31) (z 32) (z 33) (z 34) (z 35) (z 36) (z 37) := by
  intro B
  induction B with
  | zero =>
    intro x z H N m hx k st hm hs
    obtain ⟨R, M, P, own, ft, q, j⟩ := k
    have hT := j.1
    have hT4 := j.1.2.2.1
    refine br_f ?_ ?_
    · show ¬ nI 16000 ≤ nI x
      rw [nI_leI (by omega) (by omega)]
      omega
    · refine sm_w_any hT.1 hT.2.2.1 (fun ⟨t, ht, ha⟩ => ?_) (fun h => br_t rfl ⟨T + 1, sm_c45 hp T 0 z H N (by omega) (by omega) ⟨R, M, P, own, ft, q, j⟩ st h⟩)
      have h1 := sm_rk_pos (hm t ht) ha
      have h2 := sm_sum_lt (a := fun _ => 0) (b := m) (s := t) T (fun _ _ => Nat.zero_le _) ht (by omega)
      omega
  | succ B ih =>
    intro x z H N m hx k st hm hs
    have kk := k
    obtain ⟨R, M, P, own, ft, q, j⟩ := k
    have hT := j.1
    have hT4 := j.1.2.2.1
    refine br_f ?_ ?_
    · show ¬ nI 16000 ≤ nI x
      rw [nI_leI (by omega) (by omega)]
      omega
    · refine sm_w_any hT.1 hT.2.2.1 (fun ⟨t0, ht0, ha0⟩ => br_f (by decide) ?_) (fun h => br_t rfl ⟨T + 1, sm_c45 hp T 0 z H N (by omega) (by omega) ⟨R, M, P, own, ft, q, j⟩ st h⟩)
      have hpos0 := sm_rk_pos (hm t0 ht0) ha0
      refine sm_w_retS (m := fun t => m t + (if N t = 0 then 1 else 0)) kk (fun t ht => ?_) (fun z1 H1 N1 k1 s1 n1 r1 => ?_)
      · rcases Nat.eq_zero_or_pos (N t) with h0 | h0
        · rw [if_pos h0]
          exact sm_rk_wk (by omega) (by omega) (by omega) (by omega) (hm t ht)
        · rw [if_neg (by omega)]
          rcases hm t ht with h | ⟨qa, g1, g2, ⟨g3, g4⟩ | g3⟩
          · exact Or.inl h
          · omega
          · exact Or.inr ⟨qa, g1, g2, Or.inr g3⟩
      refine sm_w_cmpS k1 r1 (fun z2 N2 k2 s2 n2 r2 => ?_)
      refine sm_w_issS k2 r2 (fun z3 k3 s3 r3 => ?_)
      obtain ⟨R3, M3, P3, own3, ft3, q3, j3⟩ := k3
      have wk : ∀ (z4 : sm_Z) (N4 M' : Nat → Nat), (∀ t, t < T → sm_rk 2 2 7 23 z4 t (H1 t) (N4 t) (M' t)) → ∀ t, t < T → sm_rk 1 1 6 22 z4 t (H1 t) (N4 t) (M' t - 1) := by
        intro z4 N4 M' h t ht
        rcases h t ht with h | ⟨qa, g1, g2, ⟨g3, g4⟩ | ⟨g3, ⟨g4, g5⟩ | ⟨g4, τ, g5, g6, g7, g8⟩ | ⟨g4, i, g5, g6⟩⟩⟩
        · exact Or.inl h
        · exact Or.inr ⟨qa, g1, g2, Or.inl ⟨g3, by omega⟩⟩
        · exact Or.inr ⟨qa, g1, g2, Or.inr ⟨g3, Or.inl ⟨g4, by omega⟩⟩⟩
        · exact Or.inr ⟨qa, g1, g2, Or.inr ⟨g3, Or.inr (Or.inl ⟨g4, τ, g5, g6, g7, by omega⟩)⟩⟩
        · exact Or.inr ⟨qa, g1, g2, Or.inr ⟨g3, Or.inr (Or.inr ⟨g4, i, g5, by omega⟩)⟩⟩
      by_cases ha3 : z3 36 t0 = 0
      · -- the thread has stopped
        refine sm_w_fetS (m := fun t => if t = t0 then 0 else m t + (if N t = 0 then 1 else 0)) j3 (fun t ht => ?_) (fun z4 N4 mm k4 s4 r4 le4 st4 => nm_r (nI_1 x) ?_)
        · by_cases e : t = t0
          · subst e
            exact Or.inl ha3
          · rw [if_neg e]
            exact r3 t ht
        · have lt := sm_sum_lt (a := fun t => mm t - 1) (b := m) (s := t0) T (fun t ht => by
            have := le4 t
            try dsimp only at this ⊢
            split at this
            · omega
            · split at this <;> omega) ht0 (by
            have := le4 t0
            try dsimp only at this ⊢
            rw [if_pos rfl] at this
            omega)
          exact ih (x + 1) z4 H1 N4 (fun t => mm t - 1) (by omega) k4 (sm_stc_t st (sm_stc_t s1 (sm_stc_t s2 (sm_stc_t s3 s4)))) (wk z4 N4 mm r4) (by omega)
      · refine sm_w_fetS j3 r3 (fun z4 N4 mm k4 s4 r4 le4 st4 => nm_r (nI_1 x) ?_)
        have st' := sm_stc_t st (sm_stc_t s1 (sm_stc_t s2 (sm_stc_t s3 s4)))
        by_cases hall : ∀ t, t < T → N t = 0
        · -- nothing is in flight
          have hN2 : ∀ t, t < T → N2 t = 0 := fun t ht => by
            have := hall t ht
            have := n1 t ht
            have := n2 t ht
            omega
          obtain ⟨b, hb, hba, hb0, hbm⟩ := st4 ⟨t0, ht0, sm_cf_free j3 hex hN2 ht0 ha3, hN2 t0 ht0⟩
          have hb3 := (sm_rk_pos (r3 b hb) hba).1 hb0
          have e1 : ∀ t, t < T → (if N t = 0 then 1 else 0) = 1 := fun t ht => if_pos (hall t ht)
          have lt := sm_sum_lt (a := fun t => mm t - 1) (b := m) (s := b) T (fun t ht => by
            have := le4 t
            try dsimp only at this ⊢
            rw [e1 t ht] at this
            omega) hb (by
            try dsimp only at hbm hb3 ⊢
            rw [e1 b hb] at hbm hb3
            omega)
          exact ih (x + 1) z4 H1 N4 (fun t => mm t - 1) (by omega) k4 st' (wk z4 N4 mm r4) (by omega)
        · obtain ⟨t1, ht1⟩ := Classical.not_forall.mp hall
          have ht1' : t1 < T := Classical.byContradiction fun h => ht1 (fun h' => absurd h' h)
          have hn1 : 0 < N t1 := by
            rcases Nat.eq_zero_or_pos (N t1) with h | h
            · exact absurd (fun _ => h) ht1
            · exact h
          have ha1 : z 36 t1 ≠ 0 := by
            rcases (j.2.2.2 t1 ht1').2.2 with ⟨_, b, _⟩ | ⟨b, _⟩
            · omega
            · rw [b]; decide
          have hpos := (sm_rk_pos (hm t1 ht1') ha1).2 hn1
          have lt := sm_sum_lt (a := fun t => mm t - 1) (b := m) (s := t1) T (fun t ht => by
            have := le4 t
            try dsimp only at this ⊢
            split at this <;> omega) ht1' (by
            have := le4 t1
            try dsimp only at this ⊢
            rw [if_neg (by omega)] at this
            omega)
          exact ih (x + 1) z4 H1 N4 (fun t => mm t - 1) (by omega) k4 st' (wk z4 N4 mm r4) (by omega)
end
section
/-! a call of run -/
def sm_ar (z : sm_Z) (t : Nat) : sm_A := (fun r => z 10 (z 13 (t * 8 + r % 8)).toNatClampNeg, fun a => z 5 (t * 16 + a % 16), z 7 t, z 6 t, z 8 t, z 9 t)
/-- between calls: nothing in flight -/
def sm_idl (T W V ex : Nat) (z : sm_Z) : Prop :=
  sm_prm T W V z ∧ 1 ≤ ex ∧ ex ≤ 24 ∧ (∀ t, t < T → z 36 t = 0) ∧ (∀ t, t < T → (∃ h, h < 12 ∧ z 15 t = nI h) ∧ z 16 t = nI 0 ∧ ∀ r, r < 8 → z 14 (t * 8 + r) = z 13 (t * 8 + r)) ∧
  (∀ s, s < 48 → z 30 s = 0) ∧ (∃ own, sm_rgs T ex own (z 11) (z 12) (z 13) (z 21) (z 22) (z 30)) ∧ z 0 3 = nI ex ∧ z 0 4 = nI 0
theorem sm_cnt0 {z : sm_Z} (nl : ∀ s, s < 48 → z 30 s = 0) : sm_cnt (z 21) (z 30) 48 = 0 := by
  have : sm_cnt (z 21) (z 30) 48 = sm_cnt (fun _ => 0) (fun _ => 0) 48 := sm_cnt_eq 48 (fun i hi => by
    unfold sm_wt
    rw [if_pos (Or.inl (nl i hi)), if_pos (Or.inl rfl)])
  have z0 : sm_cnt (fun _ => 0) (fun _ => 0) 48 = 0 := by decide
  omega
theorem sm_idl_J {T W V ex : Nat} {z : sm_Z} (h : sm_idl T W V ex z) : ∃ H R M P own, sm_J T W V ex (sm_ar z) z H (fun _ => 0) R M P own ex 0 := by
  obtain ⟨h1, h2, h3, h4, h5, h6, ⟨own, h7⟩, h8, h9⟩ := h
  refine ⟨fun t => (z 15 t).toNatClampNeg, fun t _ => fun r => z 10 (z 13 (t * 8 + r % 8)).toNatClampNeg, fun t _ => fun a => z 5 (t * 16 + a % 16), fun t _ => fun r => z 13 (t * 8 + r % 8), own, h1, ⟨h1.2.2.1, h3, fun t ht => ?_, h7, h8, ?_, ?_, h9, by omega, fun i hi => absurd hi (by omega), fun i j _ hj => absurd hj (by omega), fun t k _ hk => absurd hk (Nat.not_lt_zero k)⟩, fun i hi => absurd hi (by omega), fun t ht => ?_⟩
  · obtain ⟨⟨x, hx, e15⟩, a2, a3⟩ := h5 t ht
    refine ⟨?_, ?_, a2, Nat.zero_le 12, rfl, rfl, rfl, ?_, fun k hk => absurd hk (Nat.not_lt_zero k)⟩
    · show z 15 t = nI (z 15 t).toNatClampNeg
      rw [e15, nI_clamp (by omega)]
    · show (z 15 t).toNatClampNeg < 12
      rw [e15, nI_clamp (by omega)]
      exact hx
    · funext r
      exact (a3 (r % 8) (Nat.mod_lt r (by decide))).symm
  · rw [sm_cnt0 h6]
    omega
  · intro s hs hl
    exact absurd (h6 s hs) hl
  · exact ⟨⟨fun h => absurd h (Nat.lt_irrefl 0), fun k hk => absurd hk (Nat.not_lt_zero (k + 1))⟩, fun ha => absurd (h4 t ht) ha, Or.inl ⟨h4 t ht, rfl, rfl⟩⟩
theorem sm_J_idl {T W V ex : Nat} {F : Nat → sm_A} {z : sm_Z} {H N : Nat → Nat} {R M P : Nat → Nat → Nat → Int32} {own : Nat → Nat} {ft q : Nat} (j : sm_J T W V ex F z H N R M P own ft q) (hex : 1 ≤ ex)
    (ha : ∀ t, t < T → z 36 t = 0) : sm_idl T W V ex z ∧ ∀ t, t < T → sm_ar z t = F t := by
  obtain ⟨hprm, c, hqs, hctl⟩ := j
  obtain ⟨hT, hex', hth, hrg, hft, hcn, hlv, hqq, q1, q2, q3, q4⟩ := c
  have fin : ∀ t, t < T → N t = 0 ∧ (R t 0, M t 0, z 7 t, z 6 t, z 8 t, z 9 t) = F t := fun t ht => by
    rcases (hctl t ht).2.2 with ⟨_, b, d⟩ | ⟨b, _⟩
    · exact ⟨b, d⟩
    · rw [ha t ht] at b
      exact absurd b (by decide)
  have nl : ∀ s, s < 48 → z 30 s = 0 := fun s hs => Classical.byContradiction fun hl => by
    obtain ⟨t', k', h1, h2, _⟩ := hlv s hs hl
    have := (fin t' h1).1
    omega
  have hc0 := sm_cnt0 nl
  have eft : ft = ex := by omega
  have eq0 : q = 0 := by
    rcases Nat.eq_zero_or_pos q with h | h
    · exact h
    · have := (hqs 0 h).1
      exact absurd (nl _ (sm_cl_lt (q2 0 h))) this
  subst eft eq0
  refine ⟨⟨hprm, hex, hex', ha, fun t ht => ?_, nl, ⟨own, hrg⟩, hft, hqq⟩, fun t ht => ?_⟩
  · obtain ⟨c1, c2, c3, c4, c5, c6, c7, c8, c9⟩ := hth t ht
    have n0 := (fin t ht).1
    rw [n0] at c3 c8
    refine ⟨⟨H t, c2, c1⟩, c3, fun r hr => ?_⟩
    rw [c7] at c8
    have := congrFun c8 r
    try dsimp only at this
    rw [Nat.mod_eq_of_lt hr] at this
    exact this.symm
  · obtain ⟨c1, c2, c3, c4, c5, c6, c7, c8, c9⟩ := hth t ht
    have := (fin t ht).2
    rw [c5, c6] at this
    exact this
theorem sm_w_begin {post : St2 → Prop} {z : sm_Z} {t n : Nat} (ht : t < 4) (hn : n ≤ 40)
    (h1 : z 6 t = 0 → post (sm_tp (sm_up (sm_up (sm_up (sm_up z 37 t (nI n)) 36 t 1) 32 t (z 7 t)) 33 t 0))) (h0 : z 6 t ≠ 0 → post (sm_tp (sm_up (sm_up (sm_up (sm_up z 37 t (nI n)) 36 t 0) 32 t (z 7 t)) 33 t 0))) : wpX_begin post (sm_tp z) (nI t) (nI n) := by
  have it := vp_in_nI ht (show 4 < 2 ^ 31 by decide)
  have et : (nI t).toNatClampNeg = t := nI_clamp (by omega)
  have n1 : vp_nar .boolean 1 = 1 := by decide
  have n0 : vp_nar .boolean 0 = 0 := by decide
  unfold wpX_begin
  try dsimp only
  rw [et]
  refine pk_le 0 n (fun _ => pk_le n 40 (fun _ => ⟨it, nm_e ⟨it, br_c (fun h => ?_) (fun h => ?_)⟩⟩) (fun h => absurd h (by omega))) (fun h => absurd h (by omega))
  · unfold wX_begin_32
    rw [et, n1]
    exact ⟨it, nm_e ⟨it, it, nm_e ⟨it, nm_e (h1 h)⟩⟩⟩
  · unfold wX_begin_32
    rw [et, n0]
    exact ⟨it, nm_e ⟨it, it, nm_e ⟨it, nm_e (h0 h)⟩⟩⟩
def sm_Fr (z0 : sm_Z) (n t : Nat) : Nat → sm_A := fun t' => if t' < t then sm_it (sm_sq (z0 1) (z0 2) (z0 3) (z0 4 t') t') n (sm_ar z0 t') else sm_ar z0 t'
theorem sm_run_loop {post : Int32 → St2 → Prop} {T W V ex n : Nat} {z0 : sm_Z} (hex : 1 ≤ ex) (hn : n ≤ 40)
    (hp : ∀ (z' : sm_Z) (x : Int32), sm_idl T W V ex z' → sm_stc z0 z' → (∀ t, t < T → sm_ar z' t = sm_it (sm_sq (z0 1) (z0 2) (z0 3) (z0 4 t) t) n (sm_ar z0 t)) → post x (sm_tp z')) :
    ∀ (r t : Nat) (z : sm_Z) (H N : Nat → Nat) (R M P : Nat → Nat → Nat → Int32) (own : Nat → Nat) (ft q : Nat), T - t = r → t ≤ T → sm_J T W V ex (sm_Fr z0 n t) z H N R M P own ft q → sm_stc z0 z → (∀ t', t' < T → N t' = 0) → (∀ t', t' < T → t ≤ t' → z 36 t' = 0) →
      wX_run_2 post (nI n) (r + 1) (nI t) (z 0 0) (z 0 1) (z 0 2) (z 0 3) (z 0 4) (z 0 5) (z 1) (z 2) (z 3) (z 4) (z 5) (z 6) (z 7) (z 8) (z 9) (z 10) (z 11) (z 12) (z 13) (z 14) (z 15) (z 16) (z 17) (z 18) (z 19) (z 20) (z 21) (z 22) (z 23) (z 24) (z 25) (z 26) (z 27) (z 28) (z 29) (z 30) (z 31) (z 32) (z 33) (z 34) (z 35) (z 36) (z 37) := by
  intro r
  induction r with
  | zero =>
    intro t z H N R M P own ft q hr hx j st hN hz
    have hT := j.1
    have hT4 := j.1.2.2.1
    have e : t = T := by omega
    subst e
    refine br_t ?_ ?_
    · rw [hT.1, nI_leI (by omega) (by omega)]
      exact Nat.le_refl _
    · have j0 : sm_J t W V ex (sm_Fr z0 n t) (sm_up z 0 5 0) H N R M P own ft q := by
        obtain ⟨a1, a2, a3, a4⟩ := j
        refine ⟨sm_prm_fr (fun i hi => sm_up_n _ _ _ _ (by omega)) (funext fun i => sm_up_n _ _ _ _ (by omega)) a1, sm_k_ms a2 (fun jj x b1 b2 b3 => sm_up_n _ _ _ _ (by omega)), sm_qs_fr (fun jj x b => sm_up_n _ _ _ _ (by omega)) a3, fun t' ht' => ?_⟩
        exact sm_ctl_fr (fun jj b1 b2 => funext fun i => sm_up_n _ _ _ _ (by omega)) (fun jj b1 b2 b3 => sm_up_n _ _ _ _ (by omega)) (fun jj k b1 b2 => sm_up_n _ _ _ _ (by omega)) (a4 t' ht')
      refine ⟨3768 + 1, sm_c7 (z0 := z0) (F := sm_Fr z0 n t) hex (fun z' H' N' x k' st' ha' => ?_) 3768 0 (sm_up z 0 5 0) H N (fun _ => 942) (by omega) ⟨R, M, P, own, ft, q, j0⟩ ?_ (fun t' ht' => ?_) ?_⟩
      · obtain ⟨R', M', P', own', ft', q', j'⟩ := k'
        obtain ⟨i1, i2⟩ := sm_J_idl j' hex ha'
        refine hp z' x i1 st' (fun t' ht' => ?_)
        rw [i2 t' ht']
        exact if_pos ht'
      · exact sm_stc_t st (fun jj b1 b2 => funext fun i => sm_up_n _ _ _ _ (by omega))
      · rcases (j0.2.2.2 t' ht').2.2 with ⟨b, _⟩ | ⟨_, _, qq, b1, b2, _⟩
        · exact Or.inl b
        · exact sm_rk_any j0.2.1 ht' b2 b1 (by omega) (by omega) (by omega) (by omega)
      · have := sm_sum_le (a := fun _ => 942) (b := fun _ => 942) t (fun _ _ => Nat.le_refl _)
        have h4 : t ≤ 4 := hT.2.2.1
        have : ∀ k, sm_sum (fun _ => 942) k = 942 * k := fun k => by
          induction k with
          | zero => rfl
          | succ k ih =>
            show sm_sum (fun _ => 942) k + 942 = _
            rw [ih]
            omega
        rw [this t]
        omega
  | succ r ih =>
    intro t z H N R M P own ft q hr hx j st hN hz
    have hT := j.1
    have hT4 := j.1.2.2.1
    have ht : t < T := by omega
    have n0 := hN t ht
    have hfin := (j.2.2.2 t ht).2.2
    have hA : (R t 0, M t 0, z 7 t, z 6 t, z 8 t, z 9 t) = sm_ar z0 t := by
      rcases hfin with ⟨_, _, b⟩ | ⟨b, _⟩
      · rw [b]
        exact if_neg (by omega)
      · rw [hz t ht (Nat.le_refl t)] at b
        exact absurd b (by decide)
    have stp : ∀ v : Int32, (v = 1 ∧ z 6 t = 0 ∨ v = 0 ∧ z 6 t ≠ 0) → wX_run_2 post (nI n) (r + 1) (nI (t + 1)) (sm_up (sm_up (sm_up (sm_up z 37 t (nI n)) 36 t v) 32 t (z 7 t)) 33 t 0 0 0) (sm_up (sm_up (sm_up (sm_up z 37 t (nI n)) 36 t v) 32 t (z 7 t)) 33 t 0 0 1) (sm_up (sm_up (sm_up (sm_up z 37 t (nI n)) 36 t v) 32 t (z 7 t)) 33 t 0 0 2) (sm_up (sm_up (sm_up (sm_up z 37 t (nI n)) 36 t v) 32 t (z 7 t)) 33 t 0 0 3) (sm_up (sm_up (sm_up (sm_up z 37 t (nI n)) 36 t v) 32 t (z 7 t)) 33 t 0 0 4) (sm_up (sm_up (sm_up (sm_up z 37 t (nI n)) 36 t v) 32 t (z 7 t)) 33 t 0 0 5) (sm_up (sm_up (sm_up (sm_up z 37 t (nI n)) 36 t v) 32 t (z 7 t)) 33 t 0 1) (sm_up (sm_up (sm_up (sm_up z 37 t (nI n)) 36 t v) 32 t (z 7 t)) 33 t 0 2) (sm_up (sm_up (sm_up (sm_up z 37 t (nI n)) 36 t v) 32 t (z 7 t)) 33 t 0 3) (sm_up (sm_up (sm_up (sm_up z 37 t (nI n)) 36 t v) 32 t (z 7 t)) 33 t 0 4) (sm_up (sm_up (sm_up (sm_up z 37 t (nI n)) 36 t v) 32 t (z 7 t)) 33 t 0 5) (sm_up (sm_up (sm_up (sm_up z 37 t (nI n)) 36 t v) 32 t (z 7 t)) 33 t 0 6) (sm_up (sm_up (sm_up (sm_up z 37 t (nI n)) 36 t v) 32 t (z 7 t)) 33 t 0 7) (sm_up (sm_up (sm_up (sm_up z 37 t (nI n)) 36 t v) 32 t (z 7 t)) 33 t 0 8) (sm_up (sm_up (sm_up (sm_up z 37 t (nI n)) 36 t v) 32 t (z 7 t)) 33 t 0 9) (sm_up (sm_up (sm_up (sm_up z 37 t (nI n)) 36 t v) 32 t (z 7 t)) 33 t 0 10) (sm_up (sm_up (sm_up (sm_up z 37 t (nI n)) 36 t v) 32 t (z 7 t)) 33 t 0 11) (sm_up (sm_up (sm_up (sm_up z 37 t (nI n)) 36 t v) 32 t (z 7 t)) 33 t 0 12) (sm_up (sm_up (sm_up (sm_up z 37 t (nI n)) 36 t v) 32 t (z 7 t)) 33 t 0 13) (sm_up (sm_up (sm_up (sm_up z 37 t (nI n)) 36 t v) 32 t (z 7 t)) 33 t 0 14) (sm_up (sm_up (sm_up (sm_up z 37 t (nI n)) 36 t v) 32 t (z 7 t)) 33 t 0 15) (sm_up (sm_up (sm_up (sm_up z 37 t (nI n)) 36 t v) 32 t (z 7 t)) 33 t 0 16) (sm_up (sm_up (sm_up (sm_up z 37 t (nI n)) 36 t v) 32 t (z 7 t)) 33 t 0 17) (sm_up (sm_up (sm_up (sm_up z 37 t (nI n)) 36 t v) 32 t (z 7 t)) 33 t 0 18) (sm_up (sm_up (sm_up (sm_up z 37 t (nI n)) 36 t v) 32 t (z 7 t)) 33 t 0 19) (sm_up (sm_up (sm_up (sm_up z 37 t (nI n)) 36 t v) 32 t (z 7 t)) 33 t 0 20) (sm_up (sm_up (sm_up (sm_up z 37 t (nI n)) 36 t v) 32 t (z 7 t)) 33 t 0 21) (sm_up (sm_up (sm_up (sm_up z 37 t (nI n)) 36 t v) 32 t (z 7 t)) 33 t 0 22) (sm_up (sm_up (sm_up (sm_up z 37 t (nI n)) 36 t v) 32 t (z 7 t)) 33 t 0 23) (sm_up (sm_up (sm_up (sm_up z 37 t (nI n)) 36 t v) 32 t (z 7 t)) 33 t 0 24) (sm_up (sm_up (sm_up (sm_up z 37 t (nI n)) 36 t v) 32 t (z 7 t)) 33 t 0 25) (sm_up (sm_up (sm_up (sm_up z 37 t (nI n)) 36 t v) 32 t (z 7 t)) 33 t 0 26) (sm_up (sm_up (sm_up (sm_up z 37 t (nI n)) 36 t v) 32 t (z 7 t)) 33 t 0 27) (sm_up (sm_up (sm_up (sm_up z 37 t (nI n)) 36 t v) 32 t (z 7 t)) 33 t 0 28) (sm_up (sm_up (sm_up (sm_up z 37 t (nI n)) 36 t v) 32 t (z 7 t)) 33 t 0 29) (sm_up (sm_up (sm_up (sm_up z 37 t (nI n)) 36 t v) 32 t (z 7 t)) 33 t 0 30) (sm_up (sm_up (sm_up (sm_up z 37 t (nI n)) 36 t v) 32 t (z 7 t)) 33 t 0 31) (sm_up (sm_up (sm_up (sm_up z 37 t (nI n)) 36 t v) 32 t (z 7 t)) 33 t 0 32) (sm_up (sm_up (sm_up (sm_up z 37 t (nI n)) 36 t v) 32 t (z 7 t)) 33 t 0 33) (sm_up (sm_up (sm_up (sm_up z 37 t (nI n)) 36 t v) 32 t (z 7 t)) 33 t 0 34) (sm_up (sm_up (sm_up (sm_up z 37 t (nI n)) 36 t v) 32 t (z 7 t)) 33 t 0 35) (sm_up (sm_up (sm_up (sm_up z 37 t (nI n)) 36 t v) 32 t (z 7 t)) 33 t 0 36) (sm_up (sm_up (sm_up (sm_up z 37 t (nI n)) 36 t v) 32 t (z 7 t)) 33 t 0 37) := by
      intro v hv
      have u : ∀ jj i, ¬ ((jj = 37 ∨ jj = 36 ∨ jj = 32 ∨ jj = 33) ∧ i = t) → sm_up (sm_up (sm_up (sm_up z 37 t (nI n)) 36 t v) 32 t (z 7 t)) 33 t 0 jj i = z jj i := fun jj i a => by
        rw [sm_up_n _ _ _ _ (by omega), sm_up_n _ _ _ _ (by omega), sm_up_n _ _ _ _ (by omega), sm_up_n _ _ _ _ (by omega)]
      have v37 : sm_up (sm_up (sm_up (sm_up z 37 t (nI n)) 36 t v) 32 t (z 7 t)) 33 t 0 37 t = nI n := by rw [sm_up_n _ _ _ _ (by omega), sm_up_n _ _ _ _ (by omega), sm_up_n _ _ _ _ (by omega), sm_up_y]
      have v36 : sm_up (sm_up (sm_up (sm_up z 37 t (nI n)) 36 t v) 32 t (z 7 t)) 33 t 0 36 t = v := by rw [sm_up_n _ _ _ _ (by omega), sm_up_n _ _ _ _ (by omega), sm_up_y]
      have v32 : sm_up (sm_up (sm_up (sm_up z 37 t (nI n)) 36 t v) 32 t (z 7 t)) 33 t 0 32 t = z 7 t := by rw [sm_up_n _ _ _ _ (by omega), sm_up_y]
      have v33 : sm_up (sm_up (sm_up (sm_up z 37 t (nI n)) 36 t v) 32 t (z 7 t)) 33 t 0 33 t = 0 := sm_up_y _ _ _ _
      generalize sm_up (sm_up (sm_up (sm_up z 37 t (nI n)) 36 t v) 32 t (z 7 t)) 33 t 0 = z' at *
      have rC : ∀ jj, 1 ≤ jj → jj ≤ 4 → z' jj = z jj := fun jj b1 b2 => funext fun i => u jj i (by omega)
      refine ih (t + 1) z' H N R M P own ft q (by omega) (by omega) ?_ (sm_stc_t st rC) hN (fun t' h1 h2 => ?_)
      · obtain ⟨a1, a2, a3, a4⟩ := j
        refine ⟨sm_prm_fr (fun i hi => u 0 i (by omega)) (rC 4 (by omega) (by omega)) a1, sm_k_ms a2 (fun jj x b1 b2 b3 => u jj x (by omega)), sm_qs_fr (fun jj x b => u jj x (by omega)) a3, fun t' ht' => ?_⟩
        by_cases e : t' = t
        · subst e
          have eF : sm_Fr z0 n (t' + 1) t' = sm_it (sm_sq (z0 1) (z0 2) (z0 3) (z0 4 t') t') n (sm_ar z0 t') := if_pos (by omega)
          rw [eF, n0, ← hA]
          refine ⟨⟨fun h => absurd h (by omega), fun k hk => absurd hk (by omega)⟩, fun _ => Or.inl ⟨v33, fun _ => by rw [v32, u 7 t' (by omega)], fun k hk => absurd hk (by omega)⟩, ?_⟩
          unfold sm_fnl
          rw [v36, v37, u 7 t' (by omega), u 6 t' (by omega), u 8 t' (by omega), u 9 t' (by omega), rC 1 (by omega) (by omega), rC 2 (by omega) (by omega), rC 3 (by omega) (by omega), rC 4 (by omega) (by omega), st 1 (by omega) (by omega), st 2 (by omega) (by omega), st 3 (by omega) (by omega), st 4 (by omega) (by omega)]
          rcases hv with ⟨e1, e2⟩ | ⟨e1, e2⟩
          · exact Or.inr ⟨e1, e2, n, hn, rfl, rfl⟩
          · refine Or.inl ⟨e1, rfl, ?_⟩
            rw [sm_it_fix _ (sm_sq_st _ _ _ _ _ e2)]
        · have eF : sm_Fr z0 n (t + 1) t' = sm_Fr z0 n t t' := by
            unfold sm_Fr
            by_cases h : t' < t
            · rw [if_pos h, if_pos (by omega)]
            · rw [if_neg h, if_neg (by omega)]
          rw [eF]
          exact sm_ctl_fr rC (fun jj b1 b2 b3 => u jj t' (by omega)) (fun jj k b1 b2 => u jj _ (by omega)) (a4 t' ht')
      · rw [u 36 t' (by omega)]
        exact hz t' h1 (by omega)
    refine br_f ?_ ?_
    · rw [hT.1, nI_leI (by omega) (by omega)]
      omega
    · refine sm_w_begin (by omega) hn (fun h => nm_r (nI_1 t) (stp 1 (Or.inl ⟨rfl, h⟩))) (fun h => nm_r (nI_1 t) (stp 0 (Or.inr ⟨rfl, h⟩)))
theorem sm_w_run {post : Int32 → St2 → Prop} {T W V ex n : Nat} {z : sm_Z} (h : sm_idl T W V ex z) (hn : n ≤ 40)
    (hp : ∀ (z' : sm_Z) (x : Int32), sm_idl T W V ex z' → sm_stc z z' → (∀ t, t < T → sm_ar z' t = sm_it (sm_sq (z 1) (z 2) (z 3) (z 4 t) t) n (sm_ar z t)) → post x (sm_tp z')) : wpX_run post (sm_tp z) (nI n) := by
  obtain ⟨H, R, M, P, own, j⟩ := sm_idl_J h
  have eF : sm_Fr z n 0 = sm_ar z := funext fun t => if_neg (by omega)
  rw [← eF] at j
  exact ⟨T + 1, sm_run_loop (z0 := z) h.2.1 hn hp T 0 z H (fun _ => 0) R M P own ex 0 (by omega) (by omega) j (sm_stc_r z) (fun _ _ => rfl) (fun t' ht' _ => h.2.2.2.1 t' ht')⟩
end
section
/-! a core is made -/
theorem sm_w_clamp {post : Int32 → Prop} {x : Int32} (lo hi : Nat) (h : lo ≤ hi) (hb : hi < 2 ^ 30) (hp : ∀ y, lo ≤ y → y ≤ hi → post (nI y)) : wpX_clamp post () x (nI lo) (nI hi) := by
  refine br_c (fun a => br_c (fun b => ?_) (fun b => hp hi h (Nat.le_refl _))) (fun a => hp lo (Nat.le_refl _) h)
  have a1 := Int32.le_iff_toInt_le.mp a
  rw [nI_toInt (by omega)] at a1
  obtain ⟨y, hy, ey⟩ := nI_of2 (M := nI hi) (n := hi) (nI_toInt (by omega)) (fun g => by
    have := Int32.lt_iff_toInt_lt.mp g
    have e0 : (0 : Int32).toInt = 0 := by decide
    omega) b
  subst ey
  rw [nI_toInt (by omega)] at a1
  exact hp y (by omega) hy
def sm_ini (T W V ex : Nat) (z : sm_Z) : Prop :=
  (∀ j i, j ≠ 0 → j ≠ 11 → j ≠ 12 → j ≠ 13 → j ≠ 14 → j ≠ 34 → z j i = 0) ∧ z 0 0 = nI T ∧ z 0 1 = nI W ∧ z 0 2 = nI V ∧ z 0 3 = nI ex ∧ z 0 4 = nI 0 ∧
  (∀ i, i < 56 → z 11 i = 1) ∧ (∀ i, i < ex → z 12 i = nI (T * 8 + i)) ∧ (∀ i, z 13 i = if i < 32 then nI i else 0) ∧ (∀ i, i < 32 → z 14 i = nI i)
theorem sm_i433 {post : St2 → Prop} {mc ms kc ks : Nat} {z0 : sm_Z} (hp : ∀ z' : sm_Z, (∀ j i, j ≠ 34 → z' j i = z0 j i) → post (sm_tp z')) :
    ∀ (r i : Nat) (z : sm_Z), 96 - i = r → i ≤ 96 → (∀ j i, j ≠ 34 → z j i = z0 j i) → wX_init_433 post mc ms kc ks (z 0 0) (z 0 1) (z 0 2) (z 0 3) (z 0 4) (z 0 5) (r + 1) (nI i) (z 1) (z 2) (z 3) (z 4) (z 5) (z 6) (z 7) (z 8) (z 9) (z 10) (z 11) (z 12) (z 13) (z 14) (z 15) (z 16) (z 17) (z 18) (z 19) (z 20) (z 21) (z 22) (z 23) (z 24) (z 25) (z 26) (z 27) (z 28) (z 29) (z 30) (z 31) (z 32) (z 33) (z 34) (z 35) (z 36) (z 37) := by
  intro r
  induction r with
  | zero =>
    intro i z hr hi f
    exact pk_le 96 i (fun _ => hp z f) (fun h => absurd h (by omega))
  | succ r ih =>
    intro i z hr hi f
    refine pk_le 96 i (fun h => absurd h (by omega)) (fun _ => ⟨vp_in_nI (by omega) (by decide), ?_⟩)
    rw [nI_clamp (show i < 2 ^ 31 by omega)]
    exact nm_e (nm_r (nI_1 i) (ih (i + 1) (sm_up z 34 i 1) (by omega) (by omega) (fun j x hj => by rw [sm_up_n _ _ _ _ (by omega)]; exact f j x hj)))
theorem sm_i399 {post : St2 → Prop} {mc ms kc ks T ex : Nat} {z0 : sm_Z} (hT : T ≤ 4) (hex : ex ≤ 24) (hp : ∀ z' : sm_Z, (∀ j i, j ≠ 12 → ¬ (j = 0 ∧ i = 3) → j ≠ 34 → z' j i = z0 j i) → z' 0 3 = nI ex → (∀ i, i < ex → z' 12 i = nI (T * 8 + i)) → post (sm_tp z')) :
    ∀ (r i : Nat) (z : sm_Z), ex - i = r → i ≤ ex → (∀ j i, j ≠ 12 → z j i = z0 j i) → (∀ x, x < i → z 12 x = nI (T * 8 + x)) → wX_init_399 post mc ms (nI (T * 8)) (nI ex) kc ks (z 0 0) (z 0 1) (z 0 2) (z 0 3) (z 0 4) (z 0 5) (r + 1) (nI i) (z 1) (z 2) (z 3) (z 4) (z 5) (z 6) (z 7) (z 8) (z 9) (z 10) (z 11) (z 12) (z 13) (z 14) (z 15) (z 16) (z 17) (z 18) (z 19) (z 20) (z 21) (z 22) (z 23) (z 24) (z 25) (z 26) (z 27) (z 28) (z 29) (z 30) (z 31) (z 32) (z 33) (z 34) (z 35) (z 36) (z 37) := by
  intro r
  induction r with
  | zero =>
    intro i z hr hi f g
    have e : i = ex := by omega
    subst e
    refine pk_le i i (fun _ => ⟨96 + 1, ?_⟩) (fun h => absurd h (by omega))
    refine sm_i433 (z0 := sm_up z 0 3 (nI i)) (fun z' f' => hp z' (fun j x h1 h2 h3 => ?_) ?_ (fun x hx => ?_)) 96 0 (sm_up z 0 3 (nI i)) (by omega) (by omega) (fun _ _ _ => rfl)
    · rw [f' j x h3, sm_up_n _ _ _ _ (by omega), f j x h1]
    · rw [f' 0 3 (by omega), sm_up_y]
    · rw [f' 12 x (by omega), sm_up_n _ _ _ _ (by omega), g x hx]
  | succ r ih =>
    intro i z hr hi f g
    refine pk_le ex i (fun h => absurd h (by omega)) (fun _ => ⟨vp_in_nI (by omega) (by decide), ?_⟩)
    rw [nI_clamp (show i < 2 ^ 31 by omega), nI_add]
    refine nm_e (nm_r (nI_1 i) (ih (i + 1) (sm_up z 12 i (nI (T * 8 + i))) (by omega) (by omega) (fun j x hj => by rw [sm_up_n _ _ _ _ (by omega)]; exact f j x hj) (fun x hx => ?_)))
    by_cases e : x = i
    · subst e
      rw [sm_up_y]
    · rw [sm_up_n _ _ _ _ (by omega), g x (by omega)]
theorem sm_i366 {post : St2 → Prop} {mc ms kc ks T : Nat} {x3 : Int32} {z0 : sm_Z} (hT : T ≤ 4) (hp : ∀ (ex : Nat) (z' : sm_Z), 2 ≤ ex → ex ≤ 24 → (∀ j i, j ≠ 11 → j ≠ 12 → ¬ (j = 0 ∧ i = 3) → j ≠ 34 → z' j i = z0 j i) → (∀ i, i < 56 → z' 11 i = 1) → z' 0 3 = nI ex → (∀ i, i < ex → z' 12 i = nI (T * 8 + i)) → post (sm_tp z')) :
    ∀ (r i : Nat) (z : sm_Z), 56 - i = r → i ≤ 56 → (∀ j i, j ≠ 11 → z j i = z0 j i) → (∀ x, x < i → z 11 x = 1) → wX_init_366 post mc ms x3 (nI (T * 8)) kc ks (z 0 0) (z 0 1) (z 0 2) (z 0 3) (z 0 4) (z 0 5) (r + 1) (nI i) (z 1) (z 2) (z 3) (z 4) (z 5) (z 6) (z 7) (z 8) (z 9) (z 10) (z 11) (z 12) (z 13) (z 14) (z 15) (z 16) (z 17) (z 18) (z 19) (z 20) (z 21) (z 22) (z 23) (z 24) (z 25) (z 26) (z 27) (z 28) (z 29) (z 30) (z 31) (z 32) (z 33) (z 34) (z 35) (z 36) (z 37) := by
  intro r
  induction r with
  | zero =>
    intro i z hr hi f g
    have e : i = 56 := by omega
    subst e
    refine pk_le 56 56 (fun _ => ?_) (fun h => absurd h (by omega))
    refine sm_w_clamp 2 24 (by omega) (by omega) (fun ex h1 h2 => ⟨ex + 1, ?_⟩)
    refine sm_i399 (z0 := z) hT h2 (fun z' f' a b => hp ex z' h1 h2 (fun j x b1 b2 b3 b4 => ?_) (fun x hx => ?_) a b) ex 0 z (by omega) (by omega) (fun _ _ _ => rfl) (fun x hx => absurd hx (by omega))
    · rw [f' j x b2 b3 b4, f j x b1]
    · rw [f' 11 x (by omega) (by omega) (by omega), g x hx]
  | succ r ih =>
    intro i z hr hi f g
    refine pk_le 56 i (fun h => absurd h (by omega)) (fun _ => ⟨vp_in_nI (by omega) (by decide), ?_⟩)
    rw [nI_clamp (show i < 2 ^ 31 by omega)]
    refine nm_e (nm_r (nI_1 i) (ih (i + 1) (sm_up z 11 i 1) (by omega) (by omega) (fun j x hj => by rw [sm_up_n _ _ _ _ (by omega)]; exact f j x hj) (fun x hx => ?_)))
    by_cases e : x = i
    · subst e
      rw [sm_up_y]
    · rw [sm_up_n _ _ _ _ (by omega), g x (by omega)]
theorem sm_i332 {post : St2 → Prop} {mc ms kc ks T : Nat} {x3 : Int32} {z0 : sm_Z} (hT : T ≤ 4)
    (hp : ∀ (ex : Nat) (z' : sm_Z), 2 ≤ ex → ex ≤ 24 → (∀ j i, j ≠ 11 → j ≠ 12 → ¬ (j = 0 ∧ i = 3) → j ≠ 34 → j ≠ 13 → j ≠ 14 → z' j i = z0 j i) → (∀ i, i < 56 → z' 11 i = 1) → z' 0 3 = nI ex → (∀ i, i < ex → z' 12 i = nI (T * 8 + i)) →
      (∀ i, z' 13 i = if i < 32 then nI i else z0 13 i) → (∀ i, z' 14 i = if i < 32 then nI i else z0 14 i) → post (sm_tp z')) :
    ∀ (r i : Nat) (z : sm_Z), 32 - i = r → i ≤ 32 → (∀ j i, j ≠ 13 → j ≠ 14 → z j i = z0 j i) → (∀ x, z 13 x = if x < i then nI x else z0 13 x) → (∀ x, z 14 x = if x < i then nI x else z0 14 x) → wX_init_332 post mc ms x3 (nI (T * 8)) kc ks (z 0 0) (z 0 1) (z 0 2) (z 0 3) (z 0 4) (z 0 5) (r + 1) (nI i) (z 1) (z 2) (z 3) (z 4) (z 5) (z 6) (z 7) (z 8) (z 9) (z 10) (z 11) (z 12) (z 13) (z 14) (z 15) (z 16) (z 17) (z 18) (z 19) (z 20) (z 21) (z 22) (z 23) (z 24) (z 25) (z 26) (z 27) (z 28) (z 29) (z 30) (z 31) (z 32) (z 33) (z 34) (z 35) (z 36) (z 37) := by
  intro r
  induction r with
  | zero =>
    intro i z hr hi f g g'
    have e : i = 32 := by omega
    subst e
    refine pk_le 32 32 (fun _ => ⟨56 + 1, ?_⟩) (fun h => absurd h (by omega))
    refine sm_i366 (z0 := z) hT (fun ex z' h1 h2 f' a b d => hp ex z' h1 h2 (fun j x b1 b2 b3 b4 b5 b6 => ?_) a b d (fun x => ?_) (fun x => ?_)) 56 0 z (by omega) (by omega) (fun _ _ _ => rfl) (fun x hx => absurd hx (by omega))
    · rw [f' j x b1 b2 b3 b4, f j x b5 b6]
    · rw [f' 13 x (by omega) (by omega) (by omega) (by omega), g x]
    · rw [f' 14 x (by omega) (by omega) (by omega) (by omega), g' x]
  | succ r ih =>
    intro i z hr hi f g g'
    refine pk_le 32 i (fun h => absurd h (by omega)) (fun _ => ⟨vp_in_nI (by omega) (by decide), ?_⟩)
    rw [nI_clamp (show i < 2 ^ 31 by omega)]
    refine nm_e ⟨vp_in_nI (by omega) (by decide), nm_e (nm_r (nI_1 i) (ih (i + 1) (sm_up (sm_up z 13 i (nI i)) 14 i (nI i)) (by omega) (by omega) (fun j x h1 h2 => by rw [sm_up_n _ _ _ _ (by omega), sm_up_n _ _ _ _ (by omega)]; exact f j x h1 h2) (fun x => ?_) (fun x => ?_)))⟩
    · by_cases e : x = i
      · subst e
        rw [sm_up_n _ _ _ _ (by omega), sm_up_y, if_pos (by omega)]
      · rw [sm_up_n _ _ _ _ (by omega), sm_up_n _ _ _ _ (by omega), g x]
        by_cases h : x < i
        · rw [if_pos h, if_pos (by omega)]
        · rw [if_neg h, if_neg (by omega)]
    · by_cases e : x = i
      · subst e
        rw [sm_up_y, if_pos (by omega)]
      · rw [sm_up_n _ _ _ _ (by omega), sm_up_n _ _ _ _ (by omega), g' x]
        by_cases h : x < i
        · rw [if_pos h, if_pos (by omega)]
        · rw [if_neg h, if_neg (by omega)]
def sm_z0 (T W V : Nat) : sm_Z := fun j => if j = 0 then (fun i => if i = 0 then nI T else if i = 1 then nI W else if i = 2 then nI V else 0) else (fun _ => 0)
theorem sm_w_init {post : St2 → Prop} {T : Nat} {x1 x2 x3 : Int32} (hT1 : 1 ≤ T) (hT : T ≤ 4)
    (hp : ∀ (W V ex : Nat) (z : sm_Z), 1 ≤ W → W ≤ 4 → 2 ≤ V → V ≤ 12 → 2 ≤ ex → ex ≤ 24 → sm_ini T W V ex z → post (sm_tp z)) : wpX_init post 37 1416 (0, 0, 0, 0, 0, 0) (nI T) x1 x2 x3 := by
  unfold wpX_init
  try dsimp only
  iterate 74 refine ⟨by decide, ?_⟩
  refine br_t (nI_le hT1 (by omega)) (br_t (nI_le hT (by decide)) ?_)
  refine sm_w_clamp 1 4 (by omega) (by omega) (fun W w1 w2 => sm_w_clamp 2 12 (by omega) (by omega) (fun V v1 v2 => nm_r (e' := nI (T * 8)) ?_ ⟨32 + 1, ?_⟩))
  · rw [show (8 : Int32) = nI 8 from rfl, pk_mul]
  · refine sm_i332 (z0 := sm_z0 T W V) hT (fun ex z' e1 e2 f a b d g g' => hp W V ex z' w1 w2 v1 v2 e1 e2 ⟨fun j i h0 h1 h2 h3 h4 h5 => ?_, ?_, ?_, ?_, b, ?_, a, d, fun i => ?_, fun i hi => ?_⟩) 32 0 (sm_z0 T W V) (by omega) (by omega) (fun _ _ _ _ => rfl) (fun x => by rw [if_neg (by omega)]) (fun x => by rw [if_neg (by omega)])
    · rw [f j i h1 h2 (by omega) h5 h3 h4]
      unfold sm_z0
      rw [if_neg h0]
    · rw [f 0 0 (by omega) (by omega) (by omega) (by omega) (by omega) (by omega)]
      rfl
    · rw [f 0 1 (by omega) (by omega) (by omega) (by omega) (by omega) (by omega)]
      rfl
    · rw [f 0 2 (by omega) (by omega) (by omega) (by omega) (by omega) (by omega)]
      rfl
    · rw [f 0 4 (by omega) (by omega) (by omega) (by omega) (by omega) (by omega)]
      rfl
    · rw [g i]
      rfl
    · rw [g' i, if_pos hi]
theorem sm_ini_idl {T W V ex : Nat} {z : sm_Z} (hT1 : 1 ≤ T) (hT : T ≤ 4) (w1 : 1 ≤ W) (w2 : W ≤ 4) (v1 : 2 ≤ V) (v2 : V ≤ 12) (e1 : 2 ≤ ex) (e2 : ex ≤ 24) (h : sm_ini T W V ex z) : sm_idl T W V ex z := by
  obtain ⟨h1, h2, h3, h4, h5, h6, h7, h8, h9, h10⟩ := h
  have c13 : ∀ t r, t < T → r < 8 → z 13 (t * 8 + r) = nI (t * 8 + r) := fun t r a b => by rw [h9, if_pos (by omega)]
  refine ⟨⟨h2, hT1, hT, h3, w1, w2, h4, v1, v2, fun t ht => ⟨0, by omega, h1 4 t (by omega) (by omega) (by omega) (by omega) (by omega) (by omega)⟩⟩, by omega, e2, fun t ht => h1 36 t (by omega) (by omega) (by omega) (by omega) (by omega) (by omega), fun t ht => ⟨⟨0, by omega, h1 15 t (by omega) (by omega) (by omega) (by omega) (by omega) (by omega)⟩, h1 16 t (by omega) (by omega) (by omega) (by omega) (by omega) (by omega), fun r hr => ?_⟩,
    fun s hs => h1 30 s (by omega) (by omega) (by omega) (by omega) (by omega) (by omega), ⟨fun p => if p < 8 * T then 100 + p else p - 8 * T, fun i hi => ?_, fun t r ht hr => ?_, fun s hs hl => absurd (h1 30 s (by omega) (by omega) (by omega) (by omega) (by omega) (by omega)) hl⟩, h5, h6⟩
  · rw [h10 _ (by omega), c13 t r ht hr]
  · rw [h8 i hi, nI_clamp (by omega)]
    try dsimp only
    rw [if_neg (by omega)]
    exact ⟨vp_in_nI (by omega) (by decide), by omega⟩
  · rw [c13 t r ht hr, nI_clamp (by omega)]
    try dsimp only
    rw [if_pos (by omega)]
    exact ⟨vp_in_nI (by omega) (by decide), rfl, h7 _ (by omega)⟩
end
section
/-! programs and states from outside -/
def sm_eqv (z y : sm_Z) : Prop := (∀ j, 1 ≤ j → j ≤ 10 → z j = y j) ∧ z 13 = y 13
def sm_fdR (T t r : Nat) (v : Int32) (z : sm_Z) : sm_Z := if t < T then sm_up z 10 (z 13 (t * 8 + r)).toNatClampNeg v else z
def sm_fdM (T t a : Nat) (v : Int32) (z : sm_Z) : sm_Z := if t < T then sm_up z 5 (t * 16 + a) v else z
def sm_fdE (T t : Nat) (o g m : Int32) (z : sm_Z) : sm_Z :=
  if t < T ∧ z 4 t < 24 then sm_up (sm_up (sm_up (sm_up z 1 (t * 24 + (z 4 t).toNatClampNeg) o) 2 (t * 24 + (z 4 t).toNatClampNeg) g) 3 (t * 24 + (z 4 t).toNatClampNeg) m) 4 t (z 4 t + 1) else z
theorem sm_row_up (z y : sm_Z) (j i j' : Nat) (v : Int32) (h : z j' = y j') (h2 : j' = j → z j = y j) : sm_up z j i v j' = sm_up y j i v j' := by
  unfold sm_up
  by_cases e : j' = j
  · rw [if_pos e, if_pos e, h2 e]
  · rw [if_neg e, if_neg e, h]
theorem sm_eqv_up {z y : sm_Z} (h : sm_eqv z y) (j i : Nat) (v : Int32) : sm_eqv (sm_up z j i v) (sm_up y j i v) := by
  obtain ⟨h1, h2⟩ := h
  refine ⟨fun j' a1 a2 => sm_row_up z y j i j' v (h1 j' a1 a2) (fun e => by rw [← e]; exact h1 j' a1 a2), sm_row_up z y j i 13 v h2 (fun e => by rw [← e]; exact h2)⟩
theorem sm_eqv_R {z y : sm_Z} (h : sm_eqv z y) (T t r : Nat) (v : Int32) : sm_eqv (sm_fdR T t r v z) (sm_fdR T t r v y) := by
  unfold sm_fdR
  rw [h.2]
  split
  · exact sm_eqv_up h _ _ _
  · exact h
theorem sm_eqv_M {z y : sm_Z} (h : sm_eqv z y) (T t a : Nat) (v : Int32) : sm_eqv (sm_fdM T t a v z) (sm_fdM T t a v y) := by
  unfold sm_fdM
  split
  · exact sm_eqv_up h _ _ _
  · exact h
theorem sm_eqv_E {z y : sm_Z} (h : sm_eqv z y) (T t : Nat) (o g m : Int32) : sm_eqv (sm_fdE T t o g m z) (sm_fdE T t o g m y) := by
  unfold sm_fdE
  rw [h.1 4 (by omega) (by omega)]
  split
  · exact sm_eqv_up (sm_eqv_up (sm_eqv_up (sm_eqv_up h _ _ _) _ _ _) _ _ _) _ _ _
  · exact h
theorem sm_idl_fr {T W V ex : Nat} {z z' : sm_Z} (h : sm_idl T W V ex z) (f : ∀ j i, (j = 0 ∨ 11 ≤ j) → z' j i = z j i) (g : ∀ t, t < T → ∃ m, m ≤ 24 ∧ z' 4 t = nI m) : sm_idl T W V ex z' := by
  obtain ⟨⟨p1, p2, p3, p4, p5, p6, p7, p8, p9, p10⟩, h2, h3, h4, h5, h6, ⟨own, h7⟩, h8, h9⟩ := h
  have row : ∀ j, 11 ≤ j → z' j = z j := fun j hj => funext fun i => f j i (by omega)
  refine ⟨⟨by rw [f 0 0 (by omega)]; exact p1, p2, p3, by rw [f 0 1 (by omega)]; exact p4, p5, p6, by rw [f 0 2 (by omega)]; exact p7, p8, p9, g⟩, h2, h3, by rw [row 36 (by omega)]; exact h4, by rw [row 15 (by omega), row 16 (by omega), row 14 (by omega), row 13 (by omega)]; exact h5, by rw [row 30 (by omega)]; exact h6, ⟨own, by rw [row 11 (by omega), row 12 (by omega), row 13 (by omega), row 21 (by omega), row 22 (by omega), row 30 (by omega)]; exact h7⟩, by rw [f 0 3 (by omega)]; exact h8, by rw [f 0 4 (by omega)]; exact h9⟩
theorem sm_idl_R {T W V ex : Nat} {z : sm_Z} (h : sm_idl T W V ex z) (t r : Nat) (v : Int32) : sm_idl T W V ex (sm_fdR T t r v z) := by
  unfold sm_fdR
  split
  · exact sm_idl_fr h (fun j i hj => sm_up_n _ _ _ _ (by omega)) (fun t' ht' => by rw [sm_up_n _ _ _ _ (by omega)]; exact h.1.2.2.2.2.2.2.2.2.2 t' ht')
  · exact h
theorem sm_idl_M {T W V ex : Nat} {z : sm_Z} (h : sm_idl T W V ex z) (t a : Nat) (v : Int32) : sm_idl T W V ex (sm_fdM T t a v z) := by
  unfold sm_fdM
  split
  · exact sm_idl_fr h (fun j i hj => sm_up_n _ _ _ _ (by omega)) (fun t' ht' => by rw [sm_up_n _ _ _ _ (by omega)]; exact h.1.2.2.2.2.2.2.2.2.2 t' ht')
  · exact h
theorem sm_idl_E {T W V ex : Nat} {z : sm_Z} (h : sm_idl T W V ex z) (t : Nat) (o g m : Int32) : sm_idl T W V ex (sm_fdE T t o g m z) := by
  unfold sm_fdE
  split
  · rename_i hc
    refine sm_idl_fr h (fun j i hj => ?_) (fun t' ht' => ?_)
    · rw [sm_up_n _ _ _ _ (by omega), sm_up_n _ _ _ _ (by omega), sm_up_n _ _ _ _ (by omega), sm_up_n _ _ _ _ (by omega)]
    · obtain ⟨x, hx, ex⟩ := h.1.2.2.2.2.2.2.2.2.2 t' ht'
      by_cases e : t' = t
      · subst e
        have h24 := hc.2
        rw [ex, show (24 : Int32) = nI 24 from rfl, nI_ltI (by omega) (by omega)] at h24
        exact ⟨x + 1, by omega, by rw [sm_up_y, ex, nI_1]⟩
      · refine ⟨x, hx, ?_⟩
        rw [sm_up_n _ _ _ _ (by omega), sm_up_n _ _ _ _ (by omega), sm_up_n _ _ _ _ (by omega), sm_up_n _ _ _ _ (by omega)]
        exact ex
  · exact h
theorem sm_w_good {post : Int32 → Prop} {T : Nat} {z : sm_Z} {t : Nat} (hT : z 0 0 = nI T) (hT4 : T ≤ 4) (ht : t < 4) (h1 : t < T → post 1) (h0 : ¬ t < T → post 0) : wpX_good post (sm_tp z) (nI t) :=
  br_f (nI_pos (by omega)) (pk_le T t (fun h => h0 (by omega)) (fun h => h1 h) (hx := hT))
theorem sm_w_setR {post : Int32 → St2 → Prop} {T W V ex : Nat} {z : sm_Z} (h : sm_idl T W V ex z) {t r : Nat} {v : Int32} (ht : t < 4) (hr : r < 8) (hp : ∀ x, post x (sm_tp (sm_fdR T t r v z))) : wpX_setReg post (sm_tp z) (nI t) (nI r) v := by
  have hprm := h.1
  unfold sm_fdR at hp
  unfold wpX_setReg
  try dsimp only
  refine sm_w_good hprm.1 hprm.2.2.1 ht (fun a => br_f (by decide) (br_f (nI_pos (by omega)) (pk_le r 7 (fun _ => ?_) (fun b => absurd b (by omega))))) (fun a => br_t rfl ?_)
  · have e8 : nI t * 8 + nI r = nI (t * 8 + r) := by rw [show (8 : Int32) = nI 8 from rfl, pk_mul, nI_add]
    rw [e8, nI_clamp (show t * 8 + r < 2 ^ 31 by omega)]
    obtain ⟨own, h7⟩ := h.2.2.2.2.2.2.1
    have := hp 0
    rw [if_pos a] at this
    exact ⟨vp_in_nI (by omega) (by decide), (h7.2.1 t r a hr).1, nm_e this⟩
  · have := hp (-1)
    rw [if_neg a] at this
    exact this
theorem sm_w_setM {post : Int32 → St2 → Prop} {T W V ex : Nat} {z : sm_Z} (h : sm_idl T W V ex z) {t a : Nat} {v : Int32} (ht : t < 4) (ha : a < 16) (hp : ∀ x, post x (sm_tp (sm_fdM T t a v z))) : wpX_setMem post (sm_tp z) (nI t) (nI a) v := by
  have hprm := h.1
  unfold sm_fdM at hp
  unfold wpX_setMem
  try dsimp only
  refine sm_w_good hprm.1 hprm.2.2.1 ht (fun b => br_f (by decide) (br_f (nI_pos (by omega)) (pk_le a 15 (fun _ => ?_) (fun b => absurd b (by omega))))) (fun b => br_t rfl ?_)
  · have e8 : nI t * 16 + nI a = nI (t * 16 + a) := by rw [show (16 : Int32) = nI 16 from rfl, pk_mul, nI_add]
    rw [e8, nI_clamp (show t * 16 + a < 2 ^ 31 by omega)]
    have := hp 0
    rw [if_pos b] at this
    exact ⟨vp_in_nI (by omega) (by decide), nm_e this⟩
  · have := hp (-1)
    rw [if_neg b] at this
    exact this
theorem sm_w_emit {post : Int32 → St2 → Prop} {T W V ex : Nat} {z : sm_Z} (h : sm_idl T W V ex z) {t o g : Nat} {m : Int32} (ht : t < 4) (ho : o < 16) (hg : g < 512) (hp : ∀ x, post x (sm_tp (sm_fdE T t (nI o) (nI g) m z))) : wpX_emit post (sm_tp z) (nI t) (nI o) (nI g) m := by
  have hprm := h.1
  have it := vp_in_nI ht (show 4 < 2 ^ 31 by decide)
  have et : (nI t).toNatClampNeg = t := nI_clamp (by omega)
  unfold sm_fdE at hp
  unfold wpX_emit
  try dsimp only
  rw [et]
  refine sm_w_good hprm.1 hprm.2.2.1 ht (fun b => br_f (by decide) (br_f (nI_pos (by omega)) (pk_le o 15 (fun _ => br_f (nI_pos (by omega)) (pk_le g 511 (fun _ => ⟨it, nm_e ?_⟩) (fun b => absurd b (by omega)))) (fun b => absurd b (by omega))))) (fun b => br_t rfl ?_)
  · obtain ⟨x, hx, ex⟩ := hprm.2.2.2.2.2.2.2.2.2 t b
    refine br_c (fun c => ?_) (fun c => ?_)
    · have c' := c
      rw [ex, show (24 : Int32) = nI 24 from rfl, nI_ltI (by omega) (by omega)] at c'
      have e24 : nI t * 24 + z 4 t = nI (t * 24 + x) := by rw [ex, show (24 : Int32) = nI 24 from rfl, pk_mul, nI_add]
      have i96 := vp_in_nI (show t * 24 + x < 96 by omega) (show 96 < 2 ^ 31 by decide)
      have e96 : (nI (t * 24 + x)).toNatClampNeg = t * 24 + x := nI_clamp (by omega)
      have := hp (z 4 t)
      rw [if_pos ⟨b, c⟩, show (z 4 t).toNatClampNeg = x by rw [ex, nI_clamp (by omega)]] at this
      refine nm_r e24 ?_
      rw [e96]
      exact ⟨i96, nm_e ⟨i96, nm_e ⟨i96, nm_e ⟨it, nm_e this⟩⟩⟩⟩
    · have := hp (-4)
      rw [if_neg (fun d => c d.2)] at this
      exact this
  · have := hp (-1)
    rw [if_neg (fun d => b d.1)] at this
    exact this
def sm_cst (o y : Int32) : Int32 := if o < 12 then (if y &&& 256 = 0 then y &&& 15 else y) else y &&& 31
theorem sm_w_cst {post : Int32 → Prop} {o y : Int32} (hp : post (sm_cst o y)) : wpL_constant post () o y := by
  unfold sm_cst at hp
  refine br_c (fun h => br_c (fun g => ?_) (fun g => ?_)) (fun h => ?_)
  · rw [if_pos h, if_pos g] at hp
    exact hp
  · rw [if_pos h, if_neg g] at hp
    exact hp
  · rw [if_neg h] at hp
    exact hp
def sm_fd (T k t : Nat) (x y : Int32) (z : sm_Z) : sm_Z :=
  if k < 5 then sm_fdE T t (x &&& 15) ((x >>> ((4 : Int32) &&& 31)) &&& 511) (sm_cst (x &&& 15) y) z
  else if k = 5 then sm_fdR T t (x &&& 7).toNatClampNeg y z
  else if k = 6 then sm_fdM T t (x &&& 15).toNatClampNeg y z
  else sm_fdR T t (x &&& 7).toNatClampNeg (y &&& 15) z
theorem sm_eqv_fd {z y : sm_Z} (h : sm_eqv z y) (T k t : Nat) (a b : Int32) : sm_eqv (sm_fd T k t a b z) (sm_fd T k t a b y) := by
  unfold sm_fd
  split
  · exact sm_eqv_E h _ _ _ _ _
  · split
    · exact sm_eqv_R h _ _ _ _
    · split
      · exact sm_eqv_M h _ _ _ _
      · exact sm_eqv_R h _ _ _ _
theorem sm_idl_fd {T W V ex : Nat} {z : sm_Z} (h : sm_idl T W V ex z) (k t : Nat) (a b : Int32) : sm_idl T W V ex (sm_fd T k t a b z) := by
  unfold sm_fd
  split
  · exact sm_idl_E h _ _ _ _
  · split
    · exact sm_idl_R h _ _ _
    · split
      · exact sm_idl_M h _ _ _
      · exact sm_idl_R h _ _ _
theorem sm_w_feed {post : St2 → Prop} {T W V ex : Nat} {z : sm_Z} (h : sm_idl T W V ex z) {k t : Nat} {x y : Int32} (hk : k < 8) (ht : t < 4) (hp : post (sm_tp (sm_fd T k t x y z))) : wpL_feed post (sm_tp z) (nI k) (nI t) x y := by
  have a7 := sm_and7 x
  obtain ⟨a15, h15, e15⟩ := pk_andE x (m := 15) 4 (by decide)
  obtain ⟨a511, h511, e511⟩ := pk_andE (x >>> ((4 : Int32) &&& 31)) (m := 511) 9 (by decide)
  unfold sm_fd at hp
  unfold wpL_feed
  try dsimp only
  refine pk_le 5 k (fun h5 => pk_eq k 5 (fun e => ?_) (fun e => pk_eq k 6 (fun e6 => ?_) (fun e6 => ?_))) (fun h5 => ?_)
  · rw [if_neg (by omega), if_pos e] at hp
    rw [a7.2]
    exact sm_w_setR h ht a7.1 (fun _ => hp)
  · rw [if_neg (by omega), if_neg e, if_pos e6, e15, nI_clamp (by omega)] at hp
    rw [e15]
    exact sm_w_setM h ht h15 (fun _ => hp)
  · rw [if_neg (by omega), if_neg e, if_neg e6] at hp
    rw [a7.2]
    exact sm_w_setR h ht a7.1 (fun _ => hp)
  · rw [if_pos h5, e15, e511] at hp
    rw [e15, e511]
    exact nm_e (nm_e (sm_w_cst (sm_w_emit h ht h15 h511 (fun _ => hp))))
end
section
/-! the law's checks, its loop, and the top -/
theorem sm_w_st {post : Int32 → Prop} {T : Nat} {z : sm_Z} {t : Nat} (hT : z 0 0 = nI T) (hT4 : T ≤ 4) (ht : t < 4) (hp : post (if t < T then z 6 t else -1)) : wpX_status post (sm_tp z) (nI t) := by
  unfold wpX_status
  try dsimp only
  rw [nI_clamp (show t < 2 ^ 31 by omega)]
  refine sm_w_good hT hT4 ht (fun a => br_f (by decide) ⟨vp_in_nI ht (by decide), ?_⟩) (fun a => br_t rfl ?_)
  · rw [if_pos a] at hp
    exact hp
  · rw [if_neg a] at hp
    exact hp
theorem sm_w_pc {post : Int32 → Prop} {T : Nat} {z : sm_Z} {t : Nat} (hT : z 0 0 = nI T) (hT4 : T ≤ 4) (ht : t < 4) (hp : post (if t < T then z 7 t else 0)) : wpX_pc post (sm_tp z) (nI t) := by
  unfold wpX_pc
  try dsimp only
  rw [nI_clamp (show t < 2 ^ 31 by omega)]
  refine sm_w_good hT hT4 ht (fun a => br_f (by decide) ⟨vp_in_nI ht (by decide), ?_⟩) (fun a => br_t rfl ?_)
  · rw [if_pos a] at hp
    exact hp
  · rw [if_neg a] at hp
    exact hp
theorem sm_w_rt {post : Int32 → Prop} {T : Nat} {z : sm_Z} {t : Nat} (hT : z 0 0 = nI T) (hT4 : T ≤ 4) (ht : t < 4) (hp : post (if t < T then z 8 t else 0)) : wpX_retired post (sm_tp z) (nI t) := by
  unfold wpX_retired
  try dsimp only
  rw [nI_clamp (show t < 2 ^ 31 by omega)]
  refine sm_w_good hT hT4 ht (fun a => br_f (by decide) ⟨vp_in_nI ht (by decide), ?_⟩) (fun a => br_t rfl ?_)
  · rw [if_pos a] at hp
    exact hp
  · rw [if_neg a] at hp
    exact hp
theorem sm_w_dg {post : Int32 → Prop} {T : Nat} {z : sm_Z} {t : Nat} (hT : z 0 0 = nI T) (hT4 : T ≤ 4) (ht : t < 4) (hp : post (if t < T then z 9 t else 0)) : wpX_digest post (sm_tp z) (nI t) := by
  unfold wpX_digest
  try dsimp only
  rw [nI_clamp (show t < 2 ^ 31 by omega)]
  refine sm_w_good hT hT4 ht (fun a => br_f (by decide) ⟨vp_in_nI ht (by decide), ?_⟩) (fun a => br_t rfl ?_)
  · rw [if_pos a] at hp
    exact hp
  · rw [if_neg a] at hp
    exact hp
theorem sm_w_mem {post : Int32 → Prop} {T : Nat} {z : sm_Z} {t a : Nat} (hT : z 0 0 = nI T) (hT4 : T ≤ 4) (ht : t < 4) (ha : a < 16) (hp : post (if t < T then (sm_ar z t).2.1 a else 0)) : wpX_mem post (sm_tp z) (nI t) (nI a) := by
  unfold wpX_mem
  try dsimp only
  have e16 : nI t * 16 + nI a = nI (t * 16 + a) := by rw [show (16 : Int32) = nI 16 from rfl, pk_mul, nI_add]
  rw [e16, nI_clamp (show t * 16 + a < 2 ^ 31 by omega)]
  refine sm_w_good hT hT4 ht (fun b => br_f (by decide) (br_f (nI_pos (by omega)) (pk_le a 15 (fun _ => ⟨vp_in_nI (by omega) (by decide), ?_⟩) (fun c => absurd c (by omega))))) (fun b => br_t rfl ?_)
  · rw [if_pos b] at hp
    have e : (sm_ar z t).2.1 a = z 5 (t * 16 + a) := by
      show z 5 (t * 16 + a % 16) = _
      rw [Nat.mod_eq_of_lt ha]
    rw [e] at hp
    exact hp
  · rw [if_neg b] at hp
    exact hp
theorem sm_w_reg {post : Int32 → Prop} {T W V ex : Nat} {z : sm_Z} (h : sm_idl T W V ex z) {t r : Nat} (ht : t < 4) (hr : r < 8) (hp : post (if t < T then (sm_ar z t).1 r else 0)) : wpX_reg post (sm_tp z) (nI t) (nI r) := by
  have hprm := h.1
  unfold wpX_reg
  try dsimp only
  have e8 : nI t * 8 + nI r = nI (t * 8 + r) := by rw [show (8 : Int32) = nI 8 from rfl, pk_mul, nI_add]
  rw [e8, nI_clamp (show t * 8 + r < 2 ^ 31 by omega)]
  refine sm_w_good hprm.1 hprm.2.2.1 ht (fun b => br_f (by decide) (br_f (nI_pos (by omega)) (pk_le r 7 (fun _ => ⟨vp_in_nI (by omega) (by decide), ?_⟩) (fun c => absurd c (by omega))))) (fun b => br_t rfl ?_)
  · obtain ⟨own, h7⟩ := h.2.2.2.2.2.2.1
    rw [if_pos b] at hp
    have e : (sm_ar z t).1 r = z 10 (z 13 (t * 8 + r)).toNatClampNeg := by
      show z 10 (z 13 (t * 8 + r % 8)).toNatClampNeg = _
      rw [Nat.mod_eq_of_lt hr]
    rw [e] at hp
    exact ⟨(h7.2.1 t r b hr).1, hp⟩
  · rw [if_neg b] at hp
    exact hp
/-- both cores answer alike -/
def sm_sm (T W V ex W' V' ex' : Nat) (z y : sm_Z) : Prop := sm_idl T W V ex z ∧ sm_idl T W' V' ex' y ∧ ∀ t, t < T → sm_ar z t = sm_ar y t
theorem sm_s89 {post : Int32 → Prop} {T W V ex W' V' ex' : Nat} {z y : sm_Z} (h : sm_sm T W V ex W' V' ex' z y) {t : Nat} (ht : t < 4) (hp : post 1) :
    ∀ (r i : Nat), 16 - i = r → i ≤ 16 → wL_same_89 post (nI t) (z 0 0) (z 0 1) (z 0 2) (z 0 3) (z 0 4) (z 0 5) (z 1) (z 2) (z 3) (z 4) (z 5) (z 6) (z 7) (z 8) (z 9) (z 10) (z 11) (z 12) (z 13) (z 14) (z 15) (z 16) (z 17) (z 18) (z 19) (z 20) (z 21) (z 22) (z 23) (z 24) (z 25) (z 26) (z 27) (z 28) (z 29) (z 30) (z 31) (z 32) (z 33) (z 34) (z 35) (z 36) (z 37) (y 0 0) (y 0 1) (y 0 2) (y 0 3) (y 0 4) (y 0 5) (y 1) (y 2) (y 3) (y 4) (y 5) (y 6) (y 7) (y 8) (y 9) (y 10) (y 11) (y 12) (y 13) (y 14) (y 15) (y 16) (y 17) (y 18) (y 19) (y 20) (y 21) (y 22) (y 23) (y 24) (y 25) (y 26) (y 27) (y 28) (y 29) (y 30) (y 31) (y 32) (y 33) (y 34) (y 35) (y 36) (y 37) (r + 1) (nI i) := by
  obtain ⟨h1, h2, h3⟩ := h
  intro r
  induction r with
  | zero =>
    intro i hr hi
    exact pk_le 16 i (fun _ => hp) (fun c => absurd c (by omega))
  | succ r ih =>
    intro i hr hi
    refine pk_le 16 i (fun c => absurd c (by omega)) (fun _ => ?_)
    refine sm_w_mem h1.1.1 h1.1.2.2.1 ht (by omega) (sm_w_mem h2.1.1 h1.1.2.2.1 ht (by omega) (br_t ?_ (nm_r (nI_1 i) (ih (i + 1) (by omega) (by omega)))))
    by_cases c : t < T
    · rw [h3 t c]
    · rw [if_neg c, if_neg c]
theorem sm_s58 {post : Int32 → Prop} {T W V ex W' V' ex' : Nat} {z y : sm_Z} (h : sm_sm T W V ex W' V' ex' z y) {t : Nat} (ht : t < 4) (hp : post 1) :
    ∀ (r i : Nat), 8 - i = r → i ≤ 8 → wL_same_58 post (nI t) (z 0 0) (z 0 1) (z 0 2) (z 0 3) (z 0 4) (z 0 5) (z 1) (z 2) (z 3) (z 4) (z 5) (z 6) (z 7) (z 8) (z 9) (z 10) (z 11) (z 12) (z 13) (z 14) (z 15) (z 16) (z 17) (z 18) (z 19) (z 20) (z 21) (z 22) (z 23) (z 24) (z 25) (z 26) (z 27) (z 28) (z 29) (z 30) (z 31) (z 32) (z 33) (z 34) (z 35) (z 36) (z 37) (y 0 0) (y 0 1) (y 0 2) (y 0 3) (y 0 4) (y 0 5) (y 1) (y 2) (y 3) (y 4) (y 5) (y 6) (y 7) (y 8) (y 9) (y 10) (y 11) (y 12) (y 13) (y 14) (y 15) (y 16) (y 17) (y 18) (y 19) (y 20) (y 21) (y 22) (y 23) (y 24) (y 25) (y 26) (y 27) (y 28) (y 29) (y 30) (y 31) (y 32) (y 33) (y 34) (y 35) (y 36) (y 37) (r + 1) (nI i) := by
  have hh := h
  obtain ⟨h1, h2, h3⟩ := h
  intro r
  induction r with
  | zero =>
    intro i hr hi
    exact pk_le 8 i (fun _ => ⟨16 + 1, sm_s89 hh ht hp 16 0 (by omega) (by omega)⟩) (fun c => absurd c (by omega))
  | succ r ih =>
    intro i hr hi
    refine pk_le 8 i (fun c => absurd c (by omega)) (fun _ => ?_)
    refine sm_w_reg h1 ht (by omega) (sm_w_reg h2 ht (by omega) (br_t ?_ (nm_r (nI_1 i) (ih (i + 1) (by omega) (by omega)))))
    by_cases c : t < T
    · rw [h3 t c]
    · rw [if_neg c, if_neg c]
theorem sm_w_same {post : Int32 → Prop} {T W V ex W' V' ex' : Nat} {z y : sm_Z} (h : sm_sm T W V ex W' V' ex' z y) {t : Nat} (ht : t < 4) (hp : post 1) :
    wpL_same post (z 0 0, z 0 1, z 0 2, z 0 3, z 0 4, z 0 5, z 1, z 2, z 3, z 4, z 5, z 6, z 7, z 8, z 9, z 10, z 11, z 12, z 13, z 14, z 15, z 16, z 17, z 18, z 19, z 20, z 21, z 22, z 23, z 24, z 25, z 26, z 27, z 28, z 29, z 30, z 31, z 32, z 33, z 34, z 35, z 36, z 37,
      y 0 0, y 0 1, y 0 2, y 0 3, y 0 4, y 0 5, y 1, y 2, y 3, y 4, y 5, y 6, y 7, y 8, y 9, y 10, y 11, y 12, y 13, y 14, y 15, y 16, y 17, y 18, y 19, y 20, y 21, y 22, y 23, y 24, y 25, y 26, y 27, y 28, y 29, y 30, y 31, y 32, y 33, y 34, y 35, y 36, y 37) (nI t) := by
  have hh := h
  obtain ⟨h1, h2, h3⟩ := h
  have c6 : (if t < T then z 6 t else -1) = (if t < T then y 6 t else -1) := by
    by_cases c : t < T
    · rw [if_pos c, if_pos c]
      exact congrArg (fun a : sm_A => a.2.2.2.1) (h3 t c)
    · rw [if_neg c, if_neg c]
  have c7 : (if t < T then z 7 t else 0) = (if t < T then y 7 t else 0) := by
    by_cases c : t < T
    · rw [if_pos c, if_pos c]
      exact congrArg (fun a : sm_A => a.2.2.1) (h3 t c)
    · rw [if_neg c, if_neg c]
  have c8 : (if t < T then z 8 t else 0) = (if t < T then y 8 t else 0) := by
    by_cases c : t < T
    · rw [if_pos c, if_pos c]
      exact congrArg (fun a : sm_A => a.2.2.2.2.1) (h3 t c)
    · rw [if_neg c, if_neg c]
  have c9 : (if t < T then z 9 t else 0) = (if t < T then y 9 t else 0) := by
    by_cases c : t < T
    · rw [if_pos c, if_pos c]
      exact congrArg (fun a : sm_A => a.2.2.2.2.2) (h3 t c)
    · rw [if_neg c, if_neg c]
  have T1 := h1.1.1
  have T2 := h2.1.1
  have T4 := h1.1.2.2.1
  unfold wpL_same
  try dsimp only
  refine sm_w_st T1 T4 ht (sm_w_st T2 T4 ht (br_t c6 ?_))
  refine sm_w_pc T1 T4 ht (sm_w_pc T2 T4 ht (br_t c7 ?_))
  refine sm_w_rt T1 T4 ht (sm_w_rt T2 T4 ht (br_t c8 ?_))
  refine sm_w_dg T1 T4 ht (sm_w_dg T2 T4 ht (br_t c9 ?_))
  exact ⟨8 + 1, sm_s58 hh ht hp 8 0 (by omega) (by omega)⟩
theorem sm_l225 {post : Int32 → Prop} {L : Nat} {xs : Nat → Int32} {kc ks T W V ex W' V' ex' : Nat} {z y : sm_Z} (h : sm_sm T W V ex W' V' ex' z y) (hp : post 1) :
    ∀ (r t : Nat), 4 - t = r → t ≤ 4 → wL_law_225 post L xs kc ks (z 0 0) (z 0 1) (z 0 2) (z 0 3) (z 0 4) (z 0 5) (z 1) (z 2) (z 3) (z 4) (z 5) (z 6) (z 7) (z 8) (z 9) (z 10) (z 11) (z 12) (z 13) (z 14) (z 15) (z 16) (z 17) (z 18) (z 19) (z 20) (z 21) (z 22) (z 23) (z 24) (z 25) (z 26) (z 27) (z 28) (z 29) (z 30) (z 31) (z 32) (z 33) (z 34) (z 35) (z 36) (z 37) (y 0 0) (y 0 1) (y 0 2) (y 0 3) (y 0 4) (y 0 5) (y 1) (y 2) (y 3) (y 4) (y 5) (y 6) (y 7) (y 8) (y 9) (y 10) (y 11) (y 12) (y 13) (y 14) (y 15) (y 16) (y 17) (y 18) (y 19) (y 20) (y 21) (y 22) (y 23) (y 24) (y 25) (y 26) (y 27) (y 28) (y 29) (y 30) (y 31) (y 32) (y 33) (y 34) (y 35) (y 36) (y 37) (r + 1) (nI t) := by
  intro r
  induction r with
  | zero =>
    intro t hr ht
    exact pk_le 4 t (fun _ => hp) (fun c => absurd c (by omega))
  | succ r ih =>
    intro t hr ht
    refine pk_le 4 t (fun c => absurd c (by omega)) (fun _ => ?_)
    exact sm_w_same h (by omega) (br_f (by decide) (nm_r (nI_1 t) (ih (t + 1) (by omega) (by omega))))
theorem sm_ar_eqv {z y : sm_Z} (h : sm_eqv z y) (t : Nat) : sm_ar z t = sm_ar y t := by
  obtain ⟨h1, h2⟩ := h
  unfold sm_ar
  rw [h1 10 (by omega) (by omega), h2, h1 5 (by omega) (by omega), h1 7 (by omega) (by omega), h1 6 (by omega) (by omega), h1 8 (by omega) (by omega), h1 9 (by omega) (by omega)]
theorem sm_and3 (x : Int32) : ∃ j, j < 4 ∧ x &&& 3 = nI j := by
  obtain ⟨j, hj, e⟩ := pk_andE x (m := 3) 2 (by decide)
  exact ⟨j, hj, e⟩
theorem sm_l116 {post : Int32 → Prop} {L : Nat} {xs : Nat → Int32} {kc ks T W V ex W' V' ex' a b : Nat} (hL : L ≤ 260) (hab : a + b ≤ 40) (hp : post 1) :
    ∀ (r x : Nat) (z y : sm_Z), L + 3 - x ≤ r → x ≤ L + 11 → sm_idl T W V ex z → sm_idl T W' V' ex' y → sm_eqv z y → wL_law_116 post L xs (nI a) (nI b) kc ks (r + 1) (nI x) (z 0 0) (z 0 1) (z 0 2) (z 0 3) (z 0 4) (z 0 5) (z 1) (z 2) (z 3) (z 4) (z 5) (z 6) (z 7) (z 8) (z 9) (z 10) (z 11) (z 12) (z 13) (z 14) (z 15) (z 16) (z 17) (z 18) (z 19) (z 20) (z 21) (z 22) (z 23) (z 24) (z 25) (z 26) (z 27) (z 28) (z 29) (z 30) (z 31) (z 32) (z 33) (z 34) (z 35) (z 36) (z 37) (y 0 0) (y 0 1) (y 0 2) (y 0 3) (y 0 4) (y 0 5) (y 1) (y 2) (y 3) (y 4) (y 5) (y 6) (y 7) (y 8) (y 9) (y 10) (y 11) (y 12) (y 13) (y 14) (y 15) (y 16) (y 17) (y 18) (y 19) (y 20) (y 21) (y 22) (y 23) (y 24) (y 25) (y 26) (y 27) (y 28) (y 29) (y 30) (y 31) (y 32) (y 33) (y 34) (y 35) (y 36) (y 37) := by
  have e1 : ∀ x : Nat, nI x + 1 = nI (x + 1) := fun x => nI_1 x
  have e2 : ∀ x : Nat, nI x + 2 = nI (x + 2) := fun x => by rw [show (2 : Int32) = nI 2 from rfl, nI_add]
  have e3 : ∀ x : Nat, nI x + 3 = nI (x + 3) := fun x => by rw [show (3 : Int32) = nI 3 from rfl, nI_add]
  intro r
  induction r with
  | zero =>
    intro x z y hr hx hz hy he
    refine pk_le L (x + 2) (fun _ => ?_) (fun c => absurd c (by omega)) (hy := e2 x)
    refine sm_w_run hz (by omega) (fun z1 _ i1 s1 r1 => ?_)
    refine sm_w_run i1 (by omega) (fun z2 _ i2 s2 r2 => ?_)
    try dsimp only
    rw [nI_add]
    refine sm_w_run hy hab (fun y2 _ i3 s3 r3 => ⟨4 + 1, sm_l225 ⟨i2, i3, fun t ht => ?_⟩ hp 4 0 (by omega) (by omega)⟩)
    rw [r2 t ht, r1 t ht, r3 t ht, s1 1 (by omega) (by omega), s1 2 (by omega) (by omega), s1 3 (by omega) (by omega), s1 4 (by omega) (by omega), he.1 1 (by omega) (by omega), he.1 2 (by omega) (by omega), he.1 3 (by omega) (by omega), he.1 4 (by omega) (by omega), sm_ar_eqv he t, sm_it_add]
  | succ r ih =>
    intro x z y hr hx hz hy he
    refine pk_le L (x + 2) (fun _ => ?_) (fun c => ?_) (hy := e2 x)
    · refine sm_w_run hz (by omega) (fun z1 _ i1 s1 r1 => ?_)
      refine sm_w_run i1 (by omega) (fun z2 _ i2 s2 r2 => ?_)
      try dsimp only
      rw [nI_add]
      refine sm_w_run hy hab (fun y2 _ i3 s3 r3 => ⟨4 + 1, sm_l225 ⟨i2, i3, fun t ht => ?_⟩ hp 4 0 (by omega) (by omega)⟩)
      rw [r2 t ht, r1 t ht, r3 t ht, s1 1 (by omega) (by omega), s1 2 (by omega) (by omega), s1 3 (by omega) (by omega), s1 4 (by omega) (by omega), he.1 1 (by omega) (by omega), he.1 2 (by omega) (by omega), he.1 3 (by omega) (by omega), he.1 4 (by omega) (by omega), sm_ar_eqv he t, sm_it_add]
    · rw [e1, e2]
      have i0 : vp_in (nI x) L := vp_in_nI (by omega) (by omega)
      have i1 : vp_in (nI (x + 1)) L := vp_in_nI (by omega) (by omega)
      have i2 : vp_in (nI (x + 2)) L := vp_in_nI (by omega) (by omega)
      obtain ⟨k7, h7⟩ := sm_and7 (xs (nI x).toNatClampNeg)
      obtain ⟨t, ht, h3⟩ := sm_and3 (xs (nI x).toNatClampNeg >>> ((3 : Int32) &&& 31))
      refine ⟨i0, nm_r h7 ⟨i0, nm_r h3 ⟨i1, i2, sm_w_feed hz k7 ht ⟨i1, i2, sm_w_feed hy k7 ht (nm_r (e3 x) ?_)⟩⟩⟩⟩
      exact ih (x + 3) _ _ (by omega) (by omega) (sm_idl_fd hz _ _ _ _) (sm_idl_fd hy _ _ _ _) (sm_eqv_fd he _ _ _ _ _)
theorem sm_w_cell {post : Int32 → Prop} {L : Nat} {xs : Nat → Int32} (hL : L ≤ 260) (k : Nat) (hk : k < 100) (hp : ∀ v, post v) : wpL_cell post L xs () (nI k) :=
  pk_le L k (fun _ => hp _) (fun h => ⟨vp_in_nI h (by omega), hp _⟩)
theorem sm_and31 (x : Int32) : ∃ j, j < 2 ^ 31 ∧ x &&& 2147483647 = nI j := pk_andE x (m := 2147483647) 31 (by decide)
theorem i_vc (xs : Nat → Int32) (L : Nat) (hL : L ≤ 260) : wpL_law (fun r => r = 1) L xs := by
  refine sm_w_cell hL 0 (by omega) (fun v0 => ?_)
  obtain ⟨j, hj, ej⟩ := sm_and3 v0
  refine nm_r (e' := nI (1 + j)) (by rw [ej, show (1 : Int32) = nI 1 from rfl, nI_add]) ?_
  refine sm_w_cell hL 1 (by omega) (fun v1 => sm_w_cell hL 2 (by omega) (fun v2 => sm_w_cell hL 3 (by omega) (fun v3 => sm_w_cell hL 4 (by omega) (fun v4 => sm_w_cell hL 5 (by omega) (fun v5 => sm_w_cell hL 6 (by omega) (fun v6 => ⟨37, 1416, by omega, by omega, ?_⟩))))))
  refine sm_w_init (by omega) (by omega) (fun W V ex z w1 w2 w3 w4 w5 w6 hz => ⟨by omega, by omega, 37, 1416, by omega, by omega, ?_⟩)
  refine sm_w_init (by omega) (by omega) (fun W' V' ex' y w1' w2' w3' w4' w5' w6' hy => ?_)
  have iz := sm_ini_idl (by omega) (by omega) w1 w2 w3 w4 w5 w6 hz
  have iy := sm_ini_idl (by omega) (by omega) w1' w2' w3' w4' w5' w6' hy
  have he : sm_eqv z y := ⟨fun j h1 h2 => funext fun i => by rw [hz.1 j i (by omega) (by omega) (by omega) (by omega) (by omega) (by omega), hy.1 j i (by omega) (by omega) (by omega) (by omega) (by omega) (by omega)], funext fun i => by rw [hz.2.2.2.2.2.2.2.2.1 i, hy.2.2.2.2.2.2.2.2.1 i]⟩
  refine sm_w_cell hL 7 (by omega) (fun v7 => ⟨by decide, ?_⟩)
  obtain ⟨p, hp, ep⟩ := sm_and31 v7
  refine nm_r (e' := nI (p % 41)) (by rw [ep, show (41 : Int32) = nI 41 from rfl, pk_rem hp (by omega) (by omega)]) ?_
  have hp41 : p % 41 < 41 := Nat.mod_lt _ (by omega)
  have es : (41 : Int32) - nI (p % 41) = nI (41 - p % 41) := by rw [show (41 : Int32) = nI 41 from rfl, pk_sub (by omega)]
  refine sm_w_cell hL 8 (by omega) (fun v8 => ?_)
  rw [es]
  obtain ⟨q, hq, eq⟩ := sm_and31 v8
  refine ⟨nI_ne0 (by omega) (by omega), nm_r (e' := nI (q % (41 - p % 41))) (by rw [eq, pk_rem hq (by omega) (by omega)]) ⟨L + 3 + 1, ?_⟩⟩
  have hq41 : q % (41 - p % 41) < 41 - p % 41 := Nat.mod_lt _ (by omega)
  exact sm_l116 (post := fun r => r = 1) (a := p % 41) (b := q % (41 - p % 41)) hL (by omega) rfl (L + 3) 9 z y (by omega) (by omega) iz iy he
end
