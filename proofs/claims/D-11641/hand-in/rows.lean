section
/-- a counted loop as a fold -/
def cq_fo {α : Type} (f : Nat → α → α) : Nat → Nat → α → α
  | 0, _, s => s
  | n + 1, i, s => cq_fo f n (i + 1) (f i s)
theorem cq_lpA {α : Type} (W : Nat → Nat → α → Prop) (f : Nat → α → α) (e : Nat) (hs : ∀ n i s, i < e → W n (i + 1) (f i s) → W (n + 1) i s) : ∀ k i s, i + k = e → (∀ n, W (n + 1) e (cq_fo f k i s)) → W (k + 1) i s := by
  intro k
  induction k with
  | zero =>
    intro i s hi hx
    have e1 : i = e := by omega
    rw [← e1] at hx
    exact hx 0
  | succ k ih =>
    intro i s hi hx
    exact hs _ i s (by omega) (ih (i + 1) (f i s) (by omega) hx)
/-- a counted loop that carries an accumulator -/
theorem cq_lp {α : Type} (W : Nat → Nat → α → Prop) (f : Nat → α → α) (e : Nat) (s : α) (hs : ∀ n i s, i < e → W n (i + 1) (f i s) → W (n + 1) i s) (hx : ∀ n, W (n + 1) e (cq_fo f e 0 s)) : ∃ n, W n 0 s :=
  ⟨e + 1, cq_lpA W f e hs e 0 s (by omega) hx⟩
theorem cq_lqA {α β : Type} (W : Nat → Nat → α → β → Prop) (I : β → Prop) (f : Nat → α → α) (e : Nat) (hs : ∀ n i s b, i < e → I b → (∀ b', I b' → W n (i + 1) (f i s) b') → W (n + 1) i s b) : ∀ k i s, i + k = e → (∀ n b, I b → W (n + 1) e (cq_fo f k i s) b) → ∀ b, I b → W (k + 1) i s b := by
  intro k
  induction k with
  | zero =>
    intro i s hi hx
    have e1 : i = e := by omega
    rw [← e1] at hx
    exact hx 0
  | succ k ih =>
    intro i s hi hx b hb
    exact hs _ i s b (by omega) hb (ih (i + 1) (f i s) (by omega) hx)
/-- the same beside a state that changes under an invariant -/
theorem cq_lq {α β : Type} (W : Nat → Nat → α → β → Prop) (I : β → Prop) (f : Nat → α → α) (e : Nat) (s : α) (b : β) (hb : I b) (hs : ∀ n i s b, i < e → I b → (∀ b', I b' → W n (i + 1) (f i s) b') → W (n + 1) i s b) (hx : ∀ n b, I b → W (n + 1) e (cq_fo f e 0 s) b) : ∃ n, W n 0 s b :=
  ⟨e + 1, cq_lqA W I f e hs e 0 s (by omega) hx b hb⟩
/-! pure twins of the methods that only read -/
def cq_gridS (x1 x2 : Int32) (i : Nat) (s : Int64) : Int64 := if ((x1 >>> (nI i &&& 31)) &&& 1) = 1 then s ||| (x2.toInt64 <<< ((nI i * 8).toInt64 &&& 63)) else s
def cq_grid (x1 x2 : Int32) : Int64 := cq_fo (cq_gridS x1 x2) 8 0 0
def cq_rowS (N : Nat → Int32) (row : Int32) (e : Nat) (i : Nat) (s : Int32) : Int32 := if ((row >>> (nI i &&& 31)) &&& 1) = 1 then s ||| (N ((nI i * 3) + nI e).toNatClampNeg) else s
def cq_row (N : Nat → Int32) (row : Int32) (e : Nat) : Int32 := cq_fo (cq_rowS N row e) 8 0 0
def cq_srow (N : Nat → Int32) (sh : Int32) (p : Nat) (row : Int32) (e : Nat) : Int64 :=
  if ((sh >>> (nI e &&& 31)) &&& 1) = 1 then cq_grid (N ((nI p * 3) + nI e).toNatClampNeg) (cq_row N row e)
  else cq_grid (N ((nI p * 3) + nI e).toNatClampNeg) row ||| ((cq_row N row e).toInt64 <<< ((nI p * 8).toInt64 &&& 63))
def cq_rw (set : Int64) (i : Nat) : Int32 := (((set.toUInt64 >>> ((nI i * 8).toInt64.toUInt64 &&& Int64.toUInt64 63)).toInt64).toInt32) &&& 255
def cq_stepS (N : Nat → Int32) (sh : Int32) (set : Int64) (e : Nat) (i : Nat) (s : Int64) : Int64 := if cq_rw set i = 0 then s else s ||| cq_srow N sh i (cq_rw set i) e
def cq_step (N : Nat → Int32) (sh : Int32) (set : Int64) (e : Nat) : Int64 := cq_fo (cq_stepS N sh set e) 8 0 0
/-- stepNames reads as the row of stepRow does -/
def cq_names (N : Nat → Int32) (nm : Int32) (e : Nat) : Int32 := cq_fo (cq_rowS N nm e) 8 0 0
def cq_nrefS (R : Nat → Int32) (nm : Int32) (i : Nat) (s : Int32) : Int32 := if ((nm >>> (nI i &&& 31)) &&& 1) = 1 then s ||| (R (nI i).toNatClampNeg) else s
def cq_nref (R : Nat → Int32) (nm : Int32) : Int32 := cq_fo (cq_nrefS R nm) 8 0 0
def cq_jS (f g own : Int32) (y z : Nat) (s : Int32) : Int32 :=
  if ((f >>> (nI y &&& 31)) &&& 1) = 1 then (if ((g >>> (nI z &&& 31)) &&& 1) = 1 then (if (nI y &&& own) = (nI z &&& own) then s ||| ((1 : Int32) <<< ((nI y ||| nI z) &&& 31)) else s) else s) else s
def cq_jR (f g own : Int32) (y : Nat) (s : Int32) : Int32 := cq_fo (cq_jS f g own y) 8 0 s
def cq_joint (f g own : Int32) : Int32 := cq_fo (cq_jR f g own) 8 0 0
/-- the table of joint refusals -/
def cq_T (R : Nat → Int32) (sh : Int32) (j : Nat) : Int32 := cq_joint (R (j / 8)) (R (j % 8)) (7 &&& (sh ^^^ (-1)))
def cq_famS (T : Nat → Int32) (set : Int64) (i : Nat) (s : Int32) : Int32 := if (((set.toUInt64 >>> ((nI i).toInt64.toUInt64 &&& Int64.toUInt64 63)).toInt64) &&& 1) = 1 then s ||| T i else s
def cq_fam (T : Nat → Int32) (set : Int64) : Int32 := cq_fo (cq_famS T set) 64 0 0
def cq_exc (R : Nat → Int32) (sh : Int32) (set : Int64) (nm : Int32) : Int32 := cq_fam (cq_T R sh) set &&& (cq_nref R nm ^^^ (-1))
def cq_S (l r : Int32) : Int64 := (1 : Int64) <<< (((l * 8) + r).toInt64 &&& 63)
def cq_offS (N : Nat → Int32) (sh : Int32) (set : Int64) (i : Nat) (s : Int32) : Int32 := if cq_step N sh set i = 0 then s else s ||| ((1 : Int32) <<< (nI i &&& 31))
def cq_off (N : Nat → Int32) (sh : Int32) (set : Int64) : Int32 := cq_fo (cq_offS N sh set) 3 0 0
/-- the lowest bit that is set -/
def cq_low (x : Int32) : Nat → Nat → Int32
  | 0, _ => -4
  | n + 1, i => if ((x >>> (nI i &&& 31)) &&& 1) = 1 then nI i else cq_low x n (i + 1)
/-- the first event that is offered and may be refused -/
def cq_un (st : Nat → Int64) (fam cd : Int32) : Nat → Nat → Option Int32
  | 0, _ => none
  | n + 1, i => if st i = 0 then cq_un st fam cd n (i + 1) else if ((fam >>> (((1 : Int32) <<< (nI i &&& 31)) &&& 31)) &&& 1) = 1 then some (((cd * 4) + nI i) + 1) else cq_un st fam cd n (i + 1)
/-- the walk's second node: its word and its ways, after the events below i; ways 0: there is none yet -/
def cq_pic (mv : Nat → Bool) : Nat → Nat × Nat
  | 0 => (0, 0)
  | i + 1 => if mv i = true then (if (cq_pic mv i).2 = 0 then (i + 1, 1) else ((cq_pic mv i).1, (cq_pic mv i).2 + 1)) else cq_pic mv i
/-- the first node that is a gap -/
def cq_gn (R : Nat → Int32) (sh : Int32) (s0 : Int64) (nm m1 : Int32) (kind : Nat) : Int32 :=
  if kind = 0 then (if nm = 0 then 0 else if m1 = 0 then 1 else -1)
  else (if cq_exc R sh s0 nm = 0 then (if cq_exc R sh 1 m1 = 0 then -1 else 1) else 0)
def cq_gap (g : Int32) (w : Nat) : Int32 := if g = 0 then 0 else if g = 1 then nI w else -4
def cq_gref (R : Nat → Int32) (sh : Int32) (s0 : Int64) (nm m1 g : Int32) : Int32 := if g = 0 then cq_low (cq_exc R sh s0 nm) 8 0 else if g = 1 then cq_low (cq_exc R sh 1 m1) 8 0 else -4
def cq_dead (R : Nat → Int32) (sh : Int32) (s0 : Int64) (w c : Nat) : Int32 :=
  if ((cq_fam (cq_T R sh) s0 >>> ((7 : Int32) &&& 31)) &&& 1) = 1 then 0
  else if c = 0 then -4 else if ((cq_fam (cq_T R sh) 1 >>> ((7 : Int32) &&& 31)) &&& 1) = 1 then nI w else -4
def cq_uns (N R : Nat → Int32) (sh : Int32) (s0 : Int64) : Int32 :=
  match cq_un (fun e => cq_step N sh s0 e) (cq_fam (cq_T R sh) s0) 0 3 0 with
  | some v => v
  | none => -4
/-! the class's tables behind the law's setup: a, b are the two events -/
def cq_F (a : Nat) : Int32 := if a = 0 then 85 else if a = 1 then 51 else 15
def cq_dl (a e : Nat) : Int32 := if e = a then 1 else 0
def cq_d (a b e : Nat) : Int32 := if e = a then 1 else if e = b then 1 else 0
def cq_R0 : Nat → Int32 := cq_fo (fun i s => upd s (nI i).toNatClampNeg 255) 8 0 (fun _ => 0)
def cq_def (k : Nat) (v : Nat → Int32) (N : Nat → Int32) : Nat → Int32 := cq_fo (fun e s => upd s (k * 3 + e) (v e)) 3 0 N
def cq_R (a b : Nat) : Nat → Int32 := upd (upd cq_R0 1 (cq_F a &&& cq_F b)) 2 (cq_F a ||| cq_F b)
def cq_N (a b : Nat) : Nat → Int32 := cq_def 2 (cq_d a b) (cq_def 1 (cq_d a b) (fun _ => 0))
def cq_mv (a b e : Nat) : Bool := e == a || e == b
def cq_m1 (k : Nat) : Int32 := if k = 1 then 1 else if k = 2 then 1 else 0
def cq_preS (a : Nat) (i : Nat) (s : Int32) : Int32 := if ((nI i >>> (nI a &&& 31)) &&& 1) = 0 then s ||| ((1 : Int32) <<< (nI i &&& 31)) else s
def cq_rfS (R : Nat → Int32) (sh : Int32) (s0 : Int64) (m : Nat → Int32) (kind : Nat) (k : Nat) (s : Int32) : Int32 :=
  if 0 ≤ cq_gn R sh s0 ((1 : Int32) <<< (nI k &&& 31)) (m k) kind then s else s + 1
end
section
theorem cq_in24 : ∀ i, i < 8 → ∀ e, e < 3 → vp_in ((nI i * 3) + nI e) 24 := by
  unfold vp_in
  decide +kernel
theorem cq_in64 : ∀ p, p < 8 → ∀ q, q < 8 → vp_in ((nI p * 8) + nI q) 64 := by
  unfold vp_in
  decide +kernel
theorem cq_ix3 {k e : Nat} (h : k * 3 + e < 2 ^ 31) : ((nI k * 3) + nI e).toNatClampNeg = k * 3 + e := by
  rw [show (3 : Int32) = nI 3 from rfl, pk_mul, nI_add, nI_clamp h]
theorem cq_ix8 {k e : Nat} (h : k * 8 + e < 2 ^ 31) : ((nI k * 8) + nI e).toNatClampNeg = k * 8 + e := by
  rw [show (8 : Int32) = nI 8 from rfl, pk_mul, nI_add, nI_clamp h]
theorem cq_in3 {k e N : Nat} (h : k * 3 + e < N) (hN : N < 2 ^ 31) : vp_in ((nI k * 3) + nI e) N := by
  rw [show (3 : Int32) = nI 3 from rfl, pk_mul, nI_add]
  exact vp_in_nI h hN
theorem cq_c1 : (1 : Int32).toNatClampNeg = 1 := by decide +kernel
theorem cq_c0 : (0 : Int32).toNatClampNeg = 0 := by decide +kernel
theorem cq_c2 : (2 : Int32).toNatClampNeg = 2 := by decide +kernel
theorem cq_fF : ∀ a, a < 3 → cq_fo (cq_preS a) 8 0 0 = cq_F a := by decide +kernel
theorem cq_fd : ∀ a, a < 3 → ∀ b, b < 3 → ∀ e, e < 3 → cq_dl a e ||| cq_dl b e = cq_d a b e := by decide +kernel
theorem cq_s20 : cq_S 2 0 ≠ 1 := by decide +kernel
theorem cq_s10 : cq_S 1 0 ≠ 1 := by decide +kernel
theorem cq_s12 : cq_S 1 2 ≠ 1 := by decide +kernel
theorem cq_fA : ∀ a, a < 3 → ∀ b, b < 3 → ∀ e, e < 3 → cq_step (cq_N a b) 0 (cq_S 2 0) e = if cq_mv a b e = true then 1 else 0 := by decide +kernel
theorem cq_fB : ∀ a, a < 3 → ∀ b, b < 3 → ∀ e, e < 3 → cq_step (cq_N a b) 0 (cq_S 1 0) e = if cq_mv a b e = true then 1 else 0 := by decide +kernel
theorem cq_fC : ∀ a, a < 3 → ∀ b, b < 3 → ∀ e, e < 3 → cq_step (cq_N a b) 7 (cq_S 1 2) e = if cq_mv a b e = true then 1 else 0 := by decide +kernel
theorem cq_fD : ∀ a, a < 3 → ∀ b, b < 3 → ∀ e, e < 3 → cq_step (cq_N a b) 7 (cq_S 1 0) e = if false = true then 1 else 0 := by decide +kernel
theorem cq_f10 : ∀ a, a < 3 → ∀ b, b < 3 → ∀ e, e < 3 → cq_step (cq_N a b) 0 1 e = 0 := by decide +kernel
theorem cq_f17 : ∀ a, a < 3 → ∀ b, b < 3 → ∀ e, e < 3 → cq_step (cq_N a b) 7 1 e = 0 := by decide +kernel
theorem cq_fk : ∀ a, a < 3 → ∀ b, b < 3 → ∀ k, k < 8 → ∀ e, e < 3 → cq_mv a b e = true → cq_names (cq_N a b) ((1 : Int32) <<< (nI k &&& 31)) e = cq_m1 k := by decide +kernel
theorem cq_fz : ∀ a, a < 3 → ∀ b, b < 3 → ∀ e, e < 3 → cq_names (cq_N a b) 0 e = 0 := by decide +kernel
theorem cq_pw : ∀ a, a < 3 → ∀ b, b < 3 → (cq_pic (cq_mv a b) 3).1 = (if b ≤ a then b else a) + 1 := by decide +kernel
theorem cq_pc : ∀ a, a < 3 → ∀ b, b < 3 → (cq_pic (cq_mv a b) 3).2 = (if a = b then 1 else 2) := by decide +kernel
theorem cq_p0 : ∀ a, a < 3 → ∀ b, b < 3 → (cq_pic (cq_mv a b) 3).2 ≠ 0 := by decide +kernel
/-! the law's checks, system (2, 0, 0) -/
theorem cq_a1 : ∀ a, a < 3 → ∀ b, b < 3 → cq_gap (cq_gn (cq_R a b) 0 (cq_S 2 0) ((1 : Int32) <<< (nI 1 &&& 31)) (cq_m1 1) 0) (cq_pic (cq_mv a b) 3).1 = -4 := by decide +kernel
theorem cq_a2 : ∀ a, a < 3 → ∀ b, b < 3 → cq_gap (cq_gn (cq_R a b) 0 (cq_S 2 0) ((1 : Int32) <<< (nI 1 &&& 31)) (cq_m1 1) 1) (cq_pic (cq_mv a b) 3).1 = if a = b then -4 else 0 := by decide +kernel
theorem cq_a3 : ∀ a, a < 3 → ∀ b, b < 3 → cq_gref (cq_R a b) 0 (cq_S 2 0) ((1 : Int32) <<< (nI 1 &&& 31)) (cq_m1 1) (cq_gn (cq_R a b) 0 (cq_S 2 0) ((1 : Int32) <<< (nI 1 &&& 31)) (cq_m1 1) 1) = if a = b then -4 else ((1 : Int32) <<< (nI (if b ≤ a then b else a) &&& 31)) := by decide +kernel
theorem cq_a4 : ∀ a, a < 3 → ∀ b, b < 3 → cq_gap (cq_gn (cq_R a b) 0 (cq_S 2 0) ((1 : Int32) <<< (nI 2 &&& 31)) (cq_m1 2) 1) (cq_pic (cq_mv a b) 3).1 = -4 := by decide +kernel
theorem cq_a5 : ∀ a, a < 3 → ∀ b, b < 3 → cq_gap (cq_gn (cq_R a b) 0 (cq_S 2 0) ((1 : Int32) <<< (nI 0 &&& 31)) (cq_m1 0) 0) (cq_pic (cq_mv a b) 3).1 = nI (if b ≤ a then b else a) + 1 := by decide +kernel
theorem cq_a6 : ∀ a, a < 3 → ∀ b, b < 3 → cq_fo (cq_rfS (cq_R a b) 0 (cq_S 2 0) cq_m1 0) 8 0 0 = 2 := by decide +kernel
theorem cq_a7 : ∀ a, a < 3 → ∀ b, b < 3 → cq_fo (cq_rfS (cq_R a b) 0 (cq_S 2 0) cq_m1 1) 8 0 0 = if a = b then 2 else 1 := by decide +kernel
theorem cq_a8 : ∀ a, a < 3 → ∀ b, b < 3 → cq_uns (cq_N a b) (cq_R a b) 0 (cq_S 2 0) = if a = b then -4 else nI (if b ≤ a then b else a) + 1 := by decide +kernel
theorem cq_a9 : ∀ a, a < 3 → ∀ b, b < 3 → cq_off (cq_N a b) 0 (cq_S 2 0) = ((1 : Int32) <<< (nI a &&& 31)) ||| ((1 : Int32) <<< (nI b &&& 31)) := by decide +kernel
theorem cq_ab : ∀ a, a < 3 → ∀ b, b < 3 → (if ((cq_fam (cq_T (cq_R a b) 0) (cq_S 2 0) >>> (((1 : Int32) <<< (nI (if b ≤ a then b else a) &&& 31)) &&& 31)) &&& 1) = 1 then (1 : Int32) else 0) = if a = b then 0 else 1 := by decide +kernel
theorem cq_ac : ∀ a, a < 3 → ∀ b, b < 3 → (if ((cq_fam (cq_T (cq_R a b) 0) (cq_S 2 0) >>> ((((1 : Int32) <<< (nI a &&& 31)) ||| ((1 : Int32) <<< (nI b &&& 31))) &&& 31)) &&& 1) = 1 then (1 : Int32) else 0) = 0 := by decide +kernel
theorem cq_r1 : ∀ m, m < 3 → ¬ ((1 : Int32) <<< (nI m &&& 31)) < 0 ∧ ((1 : Int32) <<< (nI m &&& 31)) ≤ 7 := by decide +kernel
theorem cq_r2 : ∀ a, a < 3 → ∀ b, b < 3 → ¬ (((1 : Int32) <<< (nI a &&& 31)) ||| ((1 : Int32) <<< (nI b &&& 31))) < 0 ∧ (((1 : Int32) <<< (nI a &&& 31)) ||| ((1 : Int32) <<< (nI b &&& 31))) ≤ 7 := by decide +kernel
/-! system (1, 0, 0) -/
theorem cq_b1 : ∀ a, a < 3 → ∀ b, b < 3 → cq_gap (cq_gn (cq_R a b) 0 (cq_S 1 0) ((1 : Int32) <<< (nI 2 &&& 31)) (cq_m1 2) 1) (cq_pic (cq_mv a b) 3).1 = -4 := by decide +kernel
theorem cq_b2 : ∀ a, a < 3 → ∀ b, b < 3 → cq_gap (cq_gn (cq_R a b) 0 (cq_S 1 0) ((1 : Int32) <<< (nI 1 &&& 31)) (cq_m1 1) 1) (cq_pic (cq_mv a b) 3).1 = -4 := by decide +kernel
theorem cq_b3 : ∀ a, a < 3 → ∀ b, b < 3 → cq_uns (cq_N a b) (cq_R a b) 0 (cq_S 1 0) = -4 := by decide +kernel
theorem cq_b4 : ∀ a, a < 3 → ∀ b, b < 3 → cq_gref (cq_R a b) 0 (cq_S 1 0) ((1 : Int32) <<< (nI 2 &&& 31)) (cq_m1 2) (cq_gn (cq_R a b) 0 (cq_S 1 0) ((1 : Int32) <<< (nI 2 &&& 31)) (cq_m1 2) 1) = -4 := by decide +kernel
/-! system (1, 2, 7) -/
theorem cq_k1 : ∀ a, a < 3 → ∀ b, b < 3 → cq_off (cq_N a b) 7 (cq_S 1 2) = ((1 : Int32) <<< (nI a &&& 31)) ||| ((1 : Int32) <<< (nI b &&& 31)) := by decide +kernel
theorem cq_k2 : ∀ a, a < 3 → ∀ b, b < 3 → cq_dead (cq_R a b) 7 (cq_S 1 2) (cq_pic (cq_mv a b) 3).1 (cq_pic (cq_mv a b) 3).2 = nI (if b ≤ a then b else a) + 1 := by decide +kernel
/-! system (1, 0, 7) -/
theorem cq_g1 : ∀ a, a < 3 → ∀ b, b < 3 → cq_off (cq_N a b) 7 (cq_S 1 0) = 0 := by decide +kernel
theorem cq_g2 : ∀ a, a < 3 → ∀ b, b < 3 → cq_dead (cq_R a b) 7 (cq_S 1 0) (cq_pic (fun _ => false) 3).1 (cq_pic (fun _ => false) 3).2 = 0 := by decide +kernel
end
section
section
variable {hh ll rr sh pd lg nd : Int32} {a1 a2 a3 a4 a5 a6 : Nat → Int32} {a7 : Nat → Int64} {a8 : Nat → Int32} {a9 : Nat → Int64} {a10 a11 a12 : Nat → Int32}
theorem cq_w_grid {post : Int64 → Prop} {f s : Int32} (hp : post (cq_grid f s)) : wpX_grid post (hh, ll, rr, sh, pd, lg, nd, a1, a2, a3, a4, a5, a6, a7, a8, a9, a10, a11, a12) f s :=
  cq_lp (fun n i x => wX_grid_5 post f s hh ll rr sh pd lg nd a1 a2 a3 a4 a5 a6 a7 a8 a9 a10 a11 a12 n x (nI i)) (cq_gridS f s) 8 0
    (fun n i x hi hw => pk_le 8 i (fun z => absurd z (by omega)) (fun _ => br_c
      (fun c => nm_e (nm_r (nI_1 i) (by rw [cq_gridS, if_pos c] at hw; exact hw)))
      (fun c => nm_r (nI_1 i) (by rw [cq_gridS, if_neg c] at hw; exact hw))))
    (fun n => pk_le 8 8 (fun _ => hp) (fun z => absurd z (by omega)))
theorem cq_w_row {post : Int64 → Prop} {p e : Nat} {row m : Int32} (he : e < 3)
    (hx : ((((sh >>> (nI e &&& 31)) &&& 1) = 1 → (wpX_grid (fun r => (post r)) (hh, ll, rr, sh, pd, lg, nd, a1, a2, a3, a4, a5, a6, a7, a8, a9, a10, a11, a12) m (cq_row a4 row e))) ∧ (¬ ((sh >>> (nI e &&& 31)) &&& 1) = 1 → (wpX_grid (fun r => (post (r ||| ((cq_row a4 row e).toInt64 <<< ((nI p * 8).toInt64 &&& 63))))) (hh, ll, rr, sh, pd, lg, nd, a1, a2, a3, a4, a5, a6, a7, a8, a9, a10, a11, a12) m row)))) :
    ∃ n, wX_stepRow_18 post (nI p) row (nI e) m hh ll rr sh pd lg nd a1 a2 a3 a4 a5 a6 a7 a8 a9 a10 a11 a12 n 0 0 :=
  cq_lp (fun n i x => wX_stepRow_18 post (nI p) row (nI e) m hh ll rr sh pd lg nd a1 a2 a3 a4 a5 a6 a7 a8 a9 a10 a11 a12 n x (nI i)) (cq_rowS a4 row e) 8 0
    (fun n i x hi hw => pk_le 8 i (fun z => absurd z (by omega)) (fun _ => br_c
      (fun c => ⟨cq_in24 i hi e he, nm_e (nm_r (nI_1 i) (by rw [cq_rowS, if_pos c] at hw; exact hw))⟩)
      (fun c => nm_r (nI_1 i) (by rw [cq_rowS, if_neg c] at hw; exact hw))))
    (fun n => pk_le 8 8 (fun _ => hx) (fun z => absurd z (by omega)))
theorem cq_w_stepRow {post : Int64 → Prop} {p e : Nat} {row : Int32} (hp8 : p < 8) (he : e < 3) (hp : post (cq_srow a4 sh p row e)) : wpX_stepRow post (hh, ll, rr, sh, pd, lg, nd, a1, a2, a3, a4, a5, a6, a7, a8, a9, a10, a11, a12) (nI p) row (nI e) :=
  And.intro (cq_in24 p hp8 e he) (nm_e (cq_w_row he (br_c
    (fun c => cq_w_grid (by rw [cq_srow, if_pos c] at hp; exact hp))
    (fun c => cq_w_grid (by rw [cq_srow, if_neg c] at hp; exact hp)))))
theorem cq_w_step {post : Int64 → Prop} {e : Nat} {set : Int64} (he : e < 3) (hp : post (cq_step a4 sh set e)) : wpX_step post (hh, ll, rr, sh, pd, lg, nd, a1, a2, a3, a4, a5, a6, a7, a8, a9, a10, a11, a12) set (nI e) :=
  cq_lp (fun n i x => wX_step_6 post set (nI e) hh ll rr sh pd lg nd a1 a2 a3 a4 a5 a6 a7 a8 a9 a10 a11 a12 n x (nI i)) (cq_stepS a4 sh set e) 8 0
    (fun n i x hi hw => pk_le 8 i (fun z => absurd z (by omega)) (fun _ => nm_r (e' := cq_rw set i) rfl (br_c
      (fun c => nm_r (nI_1 i) (by rw [cq_stepS, if_pos c] at hw; exact hw))
      (fun c => cq_w_stepRow hi he (nm_e (nm_r (nI_1 i) (by rw [cq_stepS, if_neg c] at hw; exact hw)))))))
    (fun n => pk_le 8 8 (fun _ => hp) (fun z => absurd z (by omega)))
theorem cq_w_names {post : Int32 → Prop} {e : Nat} {nm : Int32} (he : e < 3) (hp : post (cq_names a4 nm e)) : wpX_stepNames post (hh, ll, rr, sh, pd, lg, nd, a1, a2, a3, a4, a5, a6, a7, a8, a9, a10, a11, a12) nm (nI e) :=
  cq_lp (fun n i x => wX_stepNames_5 post nm (nI e) hh ll rr sh pd lg nd a1 a2 a3 a4 a5 a6 a7 a8 a9 a10 a11 a12 n x (nI i)) (cq_rowS a4 nm e) 8 0
    (fun n i x hi hw => pk_le 8 i (fun z => absurd z (by omega)) (fun _ => br_c
      (fun c => ⟨cq_in24 i hi e he, nm_e (nm_r (nI_1 i) (by rw [cq_rowS, if_pos c] at hw; exact hw))⟩)
      (fun c => nm_r (nI_1 i) (by rw [cq_rowS, if_neg c] at hw; exact hw))))
    (fun n => pk_le 8 8 (fun _ => hp) (fun z => absurd z (by omega)))
theorem cq_w_nref {post : Int32 → Prop} {nm : Int32} (hp : post (cq_nref a3 nm)) : wpX_nameRefusals post (hh, ll, rr, sh, pd, lg, nd, a1, a2, a3, a4, a5, a6, a7, a8, a9, a10, a11, a12) nm :=
  cq_lp (fun n i x => wX_nameRefusals_4 post nm hh ll rr sh pd lg nd a1 a2 a3 a4 a5 a6 a7 a8 a9 a10 a11 a12 n x (nI i)) (cq_nrefS a3 nm) 8 0
    (fun n i x hi hw => pk_le 8 i (fun z => absurd z (by omega)) (fun _ => br_c
      (fun c => ⟨pk_in i 8 hi, nm_e (nm_r (nI_1 i) (by rw [cq_nrefS, if_pos c] at hw; exact hw))⟩)
      (fun c => nm_r (nI_1 i) (by rw [cq_nrefS, if_neg c] at hw; exact hw))))
    (fun n => pk_le 8 8 (fun _ => hp) (fun z => absurd z (by omega)))
theorem cq_w_j26 {post : Int32 → Prop} {J : Int32 → Int32 → Prop} {f g own x4 : Int32} {y : Nat} (hJ : J (cq_jR f g own y x4) (nI (y + 1))) : ∃ n, wX_joint_26 post J f g own (nI y) hh ll rr sh pd lg nd a1 a2 a3 a4 a5 a6 a7 a8 a9 a10 a11 a12 n x4 0 :=
  cq_lp (fun n z s => wX_joint_26 post J f g own (nI y) hh ll rr sh pd lg nd a1 a2 a3 a4 a5 a6 a7 a8 a9 a10 a11 a12 n s (nI z)) (cq_jS f g own y) 8 x4
    (fun n z s hz hw => pk_le 8 z (fun q => absurd q (by omega)) (fun _ => br_c
      (fun c1 => br_c
        (fun c2 => br_f (show ¬ (1 : Int32) = 0 by decide) (br_c
          (fun c3 => nm_e (nm_r (nI_1 z) (by rw [cq_jS, if_pos c1, if_pos c2, if_pos c3] at hw; exact hw)))
          (fun c3 => nm_r (nI_1 z) (by rw [cq_jS, if_pos c1, if_pos c2, if_neg c3] at hw; exact hw))))
        (fun c2 => br_t (show (0 : Int32) = 0 from rfl) (nm_r (nI_1 z) (by rw [cq_jS, if_pos c1, if_neg c2] at hw; exact hw))))
      (fun c1 => br_t (show (0 : Int32) = 0 from rfl) (nm_r (nI_1 z) (by rw [cq_jS, if_neg c1] at hw; exact hw)))))
    (fun n => pk_le 8 8 (fun _ => nm_r (nI_1 y) hJ) (fun z => absurd z (by omega)))
theorem cq_w_joint {post : Int32 → Prop} {f g : Int32} (hp : post (cq_joint f g (7 &&& (sh ^^^ (-1))))) : wpX_joint post (hh, ll, rr, sh, pd, lg, nd, a1, a2, a3, a4, a5, a6, a7, a8, a9, a10, a11, a12) f g :=
  nm_e (cq_lp (fun n y s => wX_joint_16 post f g (7 &&& (sh ^^^ (-1))) hh ll rr sh pd lg nd a1 a2 a3 a4 a5 a6 a7 a8 a9 a10 a11 a12 n s (nI y)) (cq_jR f g (7 &&& (sh ^^^ (-1)))) 8 0
    (fun n y s hy hw => pk_le 8 y (fun z => absurd z (by omega)) (fun _ => cq_w_j26 hw))
    (fun n => pk_le 8 8 (fun _ => hp) (fun z => absurd z (by omega))))
/-- the table is right as far as k -/
def cq_Tk (R : Nat → Int32) (sh : Int32) (k : Nat) (a5 : Nat → Int32) : Prop := ∀ j, j < k → a5 j = cq_T R sh j
theorem cq_Tput {R a5 : Nat → Int32} {s : Int32} {p q : Nat} (hp : p < 8) (hq : q < 8) (ht : cq_Tk R s (p * 8 + q) a5) :
    cq_Tk R s (p * 8 + (q + 1)) (upd a5 ((nI p * 8) + nI q).toNatClampNeg (cq_joint (R (nI p).toNatClampNeg) (R (nI q).toNatClampNeg) (7 &&& (s ^^^ (-1))))) := by
  intro j hj
  rw [cq_ix8 (by omega), nI_clamp (by omega), nI_clamp (by omega)]
  by_cases e : j = p * 8 + q
  · rw [e, pk_us, cq_T, show (p * 8 + q) / 8 = p by omega, show (p * 8 + q) % 8 = q by omega]
  · rw [pk_un e]
    exact ht j (by omega)
theorem cq_w_p18 {post : St2 → Prop} {J : Int32 → (Nat → Int32) → (Nat → Int32) → (Nat → Int32) → (Nat → Int32) → (Nat → Int32) → (Nat → Int32) → (Nat → Int64) → (Nat → Int32) → (Nat → Int64) → (Nat → Int32) → (Nat → Int32) → (Nat → Int32) → Prop} {p : Nat} (hp : p < 8) (ht : cq_Tk a3 sh (p * 8) a5)
    (hJ : ∀ s, cq_Tk a3 sh ((p + 1) * 8) s → J (nI (p + 1)) a1 a2 a3 a4 s a6 a7 a8 a9 a10 a11 a12) : ∃ n, wX_pairUp_18 post J (nI p) hh ll rr sh pd lg nd n 0 a1 a2 a3 a4 a5 a6 a7 a8 a9 a10 a11 a12 :=
  pk_loop (fun n q s => wX_pairUp_18 post J (nI p) hh ll rr sh pd lg nd n (nI q) a1 a2 a3 a4 s a6 a7 a8 a9 a10 a11 a12) (fun q s => cq_Tk a3 sh (p * 8 + q) s) 8 0 a5 (by omega) ht
    (fun n s hs => pk_le 8 8 (fun _ => nm_r (nI_1 p) (hJ s (by rw [show (p + 1) * 8 = p * 8 + 8 by omega]; exact hs))) (fun z => absurd z (by omega)))
    (fun n q s hq hs hw => pk_le 8 q (fun z => absurd z (by omega)) (fun _ => ⟨pk_in p 8 hp, pk_in q 8 hq, cq_w_joint ⟨cq_in64 p hp q hq, nm_e (nm_r (nI_1 q) (hw _ (cq_Tput hp hq hs)))⟩⟩))
theorem cq_w_pairUp {post : St2 → Prop} (hP : ¬ pd = 0 → cq_Tk a3 sh 64 a5) (H : ∀ pd a5, cq_Tk a3 sh 64 a5 → post (hh, ll, rr, sh, pd, lg, nd, a1, a2, a3, a4, a5, a6, a7, a8, a9, a10, a11, a12)) : wpX_pairUp post (hh, ll, rr, sh, pd, lg, nd, a1, a2, a3, a4, a5, a6, a7, a8, a9, a10, a11, a12) :=
  br_c
    (fun _ => pk_loop (fun n p s => wX_pairUp_10 post hh ll rr sh pd lg nd n (nI p) a1 a2 a3 a4 s a6 a7 a8 a9 a10 a11 a12) (fun p s => cq_Tk a3 sh (p * 8) s) 8 0 a5 (by omega) (fun j hj => absurd hj (by omega))
      (fun n s hs => pk_le 8 8 (fun _ => H 1 s hs) (fun z => absurd z (by omega)))
      (fun n p s hp hs hw => pk_le 8 p (fun z => absurd z (by omega)) (fun _ => cq_w_p18 hp hs (fun s' h' => hw s' h'))))
    (fun c => H pd a5 (hP c))
theorem cq_w_refusals {post : Int32 → St2 → Prop} {set : Int64} (hP : ¬ pd = 0 → cq_Tk a3 sh 64 a5) (H : ∀ pd a5, cq_Tk a3 sh 64 a5 → post (cq_fam (cq_T a3 sh) set) (hh, ll, rr, sh, pd, lg, nd, a1, a2, a3, a4, a5, a6, a7, a8, a9, a10, a11, a12)) : wpX_refusals post (hh, ll, rr, sh, pd, lg, nd, a1, a2, a3, a4, a5, a6, a7, a8, a9, a10, a11, a12) set := by
  unfold wpX_refusals
  refine cq_w_pairUp hP (fun pd' a5' ht => ?_)
  exact cq_lp (fun n i s => wX_refusals_9 post set hh ll rr sh pd' lg nd a1 a2 a3 a4 a5' a6 a7 a8 a9 a10 a11 a12 n s (nI i)) (cq_famS (cq_T a3 sh) set) 64 0
    (fun n i s hi hw => pk_le 64 i (fun z => absurd z (by omega)) (fun _ => br_c
      (fun c => ⟨pk_in i 64 hi, nm_r (e' := s ||| cq_T a3 sh i) (by rw [nI_clamp (by omega), ht i hi]) (nm_r (nI_1 i) (by rw [cq_famS, if_pos c] at hw; exact hw))⟩)
      (fun c => nm_r (nI_1 i) (by rw [cq_famS, if_neg c] at hw; exact hw))))
    (fun n => pk_le 64 64 (fun _ => H pd' a5' ht) (fun z => absurd z (by omega)))
theorem cq_w_excess {post : Int32 → St2 → Prop} {i : Nat} (hi : i < 128) (hP : ¬ pd = 0 → cq_Tk a3 sh 64 a5) (H : ∀ pd a5, cq_Tk a3 sh 64 a5 → post (cq_exc a3 sh (a9 i) (a10 i)) (hh, ll, rr, sh, pd, lg, nd, a1, a2, a3, a4, a5, a6, a7, a8, a9, a10, a11, a12)) : wpX_excess post (hh, ll, rr, sh, pd, lg, nd, a1, a2, a3, a4, a5, a6, a7, a8, a9, a10, a11, a12) (nI i) := by
  unfold wpX_excess
  refine ⟨pk_in i 128 hi, ?_⟩
  rw [nI_clamp (show i < 2 ^ 31 by omega)]
  refine cq_w_refusals hP (fun pd' a5' ht => ?_)
  exact ⟨pk_in i 128 hi, cq_w_nref (H pd' a5' ht)⟩
theorem cq_w_offers {post : Int32 → Prop} (hp : post (cq_off a4 sh (a7 0))) : wpX_offers post (hh, ll, rr, sh, pd, 0, nd, a1, a2, a3, a4, a5, a6, a7, a8, a9, a10, a11, a12) := by
  rw [show a7 0 = a7 (0 : Int32).toNatClampNeg by rw [cq_c0]] at hp
  exact br_f (show ¬ (0 : Int32) = 4 by decide) (cq_lp (fun n i x => wX_offers_14 post hh ll rr sh pd 0 nd a1 a2 a3 a4 a5 a6 a7 a8 a9 a10 a11 a12 n x (nI i)) (cq_offS a4 sh (a7 (0 : Int32).toNatClampNeg)) 3 0
    (fun n i x hi hw => pk_le 3 i (fun z => absurd z (by omega)) (fun _ => ⟨pk_in 0 5 (by omega), cq_w_step hi (br_c
      (fun c => nm_r (nI_1 i) (by rw [cq_offS, if_pos c] at hw; exact hw))
      (fun c => nm_e (nm_r (nI_1 i) (by rw [cq_offS, if_neg c] at hw; exact hw))))⟩))
    (fun n => pk_le 3 3 (fun _ => hp) (fun z => absurd z (by omega))))
theorem cq_w_refuses {post : Int32 → St2 → Prop} {set : Int32} (h0 : ¬ set < 0) (h7 : set ≤ 7) (hP : ¬ pd = 0 → cq_Tk a3 sh 64 a5) (H : ∀ pd a5, cq_Tk a3 sh 64 a5 → post (if ((cq_fam (cq_T a3 sh) (a7 0) >>> (set &&& 31)) &&& 1) = 1 then 1 else 0) (hh, ll, rr, sh, pd, 0, nd, a1, a2, a3, a4, a5, a6, a7, a8, a9, a10, a11, a12)) : wpX_refuses post (hh, ll, rr, sh, pd, 0, nd, a1, a2, a3, a4, a5, a6, a7, a8, a9, a10, a11, a12) set := by
  refine br_f h0 (br_t h7 ⟨pk_in 0 5 (by omega), ?_⟩)
  rw [cq_c0]
  exact cq_w_refusals hP (fun pd' a5' ht => br_c
    (fun c => by have t := H pd' a5' ht; rw [if_pos c] at t; exact t)
    (fun c => by have t := H pd' a5' ht; rw [if_neg c] at t; exact t))
end
end
section
/-- the nodes of a walk: the first one, and a second one if c is not 0 -/
abbrev cq_K (s0 : Int64) (nm m1 : Int32) (w c : Nat) (nd : Int32) (a9 : Nat → Int64) (a10 a11 a12 : Nat → Int32) : Prop :=
  a9 0 = s0 ∧ a10 0 = nm ∧ a11 0 = 0 ∧ a12 0 = 1 ∧ ((c = 0 ∧ nd = 1) ∨ (c ≠ 0 ∧ nd = 2 ∧ a9 1 = 1 ∧ a10 1 = m1 ∧ a11 1 = nI w ∧ a12 1 = nI c))
/-- the layers of a walk, as far as they are read -/
abbrev cq_L (nd : Int32) (a8 : Nat → Int32) : Prop := a8 1 = 1 ∧ a8 2 = nd ∧ a8 4 = nd
section
variable {hh ll rr sh pd lg nd : Int32} {a1 a2 a3 a4 a5 a6 : Nat → Int32} {a7 : Nat → Int64} {a8 : Nat → Int32} {a9 : Nat → Int64} {a10 a11 a12 : Nat → Int32}
/-- enter: no such node, one node stands -/
theorem cq_w_ins {post : St2 → Prop} {x1 : Int64} {x3 x4 x5 : Int32} {n : Nat} (hp : post (hh, ll, rr, sh, pd, lg, 2, a1, a2, a3, a4, a5, a6, a7, a8, vp_updL a9 1 x1, upd a10 1 x3, upd a11 1 x4, upd a12 1 x5)) : wX_enter_4 post x1 x3 x4 x5 hh ll rr sh pd lg 1 a1 a2 a3 a4 a5 a6 a7 a8 a9 a10 a11 a12 (n + 1) 1 :=
  br_t (show (1 : Int32) ≤ 1 by decide) (br_f (show ¬ (128 : Int32) ≤ 1 by decide) ⟨pk_in 1 128 (by omega), nm_r (e' := vp_updL a9 1 x1) (by rw [cq_c1])
    ⟨pk_in 1 128 (by omega), nm_r (e' := upd a10 1 x3) (by rw [cq_c1]) ⟨pk_in 1 128 (by omega), nm_r (e' := upd a11 1 x4) (by rw [cq_c1])
    ⟨pk_in 1 128 (by omega), nm_r (e' := upd a12 1 x5) (by rw [cq_c1]) (nm_r (e' := 2) (by decide) hp)⟩⟩⟩⟩)
theorem cq_w_ent1 {post : St2 → Prop} {x1 : Int64} {x3 x4 x5 fr : Int32} (hfr : fr = 0 ∨ fr = 1) (h9 : ¬ a9 0 = x1) (hp : post (hh, ll, rr, sh, pd, lg, 2, a1, a2, a3, a4, a5, a6, a7, a8, vp_updL a9 1 x1, upd a10 1 x3, upd a11 1 x4, upd a12 1 x5)) : wpX_enter post (hh, ll, rr, sh, pd, lg, 1, a1, a2, a3, a4, a5, a6, a7, a8, a9, a10, a11, a12) x1 x3 x4 x5 fr := by
  rw [← cq_c0] at h9
  rcases hfr with rfl | rfl
  · exact Exists.intro (0 + 1 + 1) (br_f (show ¬ (1 : Int32) ≤ 0 by decide) ⟨pk_in 0 128 (by omega), br_f h9 (nm_r (e' := 1) (by decide) (cq_w_ins hp))⟩)
  · exact Exists.intro (0 + 1) (cq_w_ins hp)
/-- enter: the second node is the one -/
theorem cq_w_hit {post : St2 → Prop} {x1 : Int64} {x3 x4 x5 : Int32} {n : Nat} (h9 : a9 1 = x1) (h10 : a10 1 = x3) (hp : post (hh, ll, rr, sh, pd, lg, 2, a1, a2, a3, a4, a5, a6, a7, a8, a9, a10, a11, upd a12 1 (a12 1 + x5))) : wX_enter_4 post x1 x3 x4 x5 hh ll rr sh pd lg 2 a1 a2 a3 a4 a5 a6 a7 a8 a9 a10 a11 a12 (n + 1) 1 := by
  rw [← cq_c1] at h9 h10
  exact br_f (show ¬ (2 : Int32) ≤ 1 by decide) ⟨pk_in 1 128 (by omega), br_t h9 ⟨pk_in 1 128 (by omega), br_t h10 ⟨pk_in 1 128 (by omega), pk_in 1 128 (by omega), nm_r (e' := upd a12 1 (a12 1 + x5)) (by rw [cq_c1]) hp⟩⟩⟩
theorem cq_w_ent2 {post : St2 → Prop} {x1 : Int64} {x3 x4 x5 fr : Int32} (hfr : fr = 0 ∨ fr = 1) (h9 : ¬ a9 0 = x1) (h1 : a9 1 = x1) (h10 : a10 1 = x3) (hp : post (hh, ll, rr, sh, pd, lg, 2, a1, a2, a3, a4, a5, a6, a7, a8, a9, a10, a11, upd a12 1 (a12 1 + x5))) : wpX_enter post (hh, ll, rr, sh, pd, lg, 2, a1, a2, a3, a4, a5, a6, a7, a8, a9, a10, a11, a12) x1 x3 x4 x5 fr := by
  rw [← cq_c0] at h9
  rcases hfr with rfl | rfl
  · exact Exists.intro (0 + 1 + 1) (br_f (show ¬ (2 : Int32) ≤ 0 by decide) ⟨pk_in 0 128 (by omega), br_f h9 (nm_r (e' := 1) (by decide) (cq_w_hit h1 h10 hp))⟩)
  · exact Exists.intro (0 + 1) (cq_w_hit h1 h10 hp)
/-- one event of the first node's expansion -/
theorem cq_w_exS {post : St2 → Prop} {s0 : Int64} {nm m1 fr : Int32} {mv : Nat → Bool} {n i : Nat} (hi : i < 3) (hfr : fr = 0 ∨ fr = 1) (h1 : s0 ≠ 1)
    (hst : cq_step a4 sh s0 i = if mv i = true then 1 else 0) (hm : mv i = true → cq_names a4 nm i = m1)
    (hK : cq_K s0 nm m1 (cq_pic mv i).1 (cq_pic mv i).2 nd a9 a10 a11 a12)
    (hw : ∀ nd a9 a10 a11 a12, cq_K s0 nm m1 (cq_pic mv (i + 1)).1 (cq_pic mv (i + 1)).2 nd a9 a10 a11 a12 → wX_expand_2 post 0 fr n (nI (i + 1)) hh ll rr sh pd lg nd a1 a2 a3 a4 a5 a6 a7 a8 a9 a10 a11 a12) :
    wX_expand_2 post 0 fr (n + 1) (nI i) hh ll rr sh pd lg nd a1 a2 a3 a4 a5 a6 a7 a8 a9 a10 a11 a12 := by
  obtain ⟨k9, k10, k11, k12, hk⟩ := hK
  refine pk_le 3 i (fun z => absurd z (by omega)) (fun _ => ⟨pk_in 0 128 (by omega), ?_⟩)
  rw [cq_c0, k9]
  refine cq_w_step hi ?_
  rw [hst]
  rcases hmv : mv i with _ | _
  · refine br_t (by rw [if_neg (by decide)]) (nm_r (nI_1 i) (hw nd a9 a10 a11 a12 ?_))
    rw [cq_pic, hmv, if_neg (by decide)]
    exact ⟨k9, k10, k11, k12, hk⟩
  · rw [if_pos rfl]
    refine br_f (by decide) ⟨pk_in 0 128 (by omega), ?_⟩
    rw [k10]
    refine cq_w_names hi ?_
    rw [hm hmv, k11, k12, show ((0 : Int32) * 4 + nI i) + 1 = nI (i + 1) by rw [show (0 : Int32) * 4 = nI 0 by decide +kernel, nI_add, nI_1, Nat.zero_add]]
    refine ⟨pk_in 0 128 (by omega), pk_in 0 128 (by omega), ?_⟩
    rcases hk with ⟨c0, n1⟩ | ⟨c0, n2, k91, k101, k111, k121⟩
    · rw [n1]
      refine cq_w_ent1 hfr (by rw [k9]; exact h1) (nm_r (nI_1 i) (hw 2 (vp_updL a9 1 1) (upd a10 1 m1) (upd a11 1 (nI (i + 1))) (upd a12 1 1) ?_))
      rw [cq_pic, if_pos hmv, if_pos c0]
      exact ⟨by rw [pk_uLn (by decide), k9], by rw [pk_un (by decide), k10], by rw [pk_un (by decide), k11], by rw [pk_un (by decide), k12], Or.inr ⟨Nat.one_ne_zero, rfl, pk_uLs, pk_us, pk_us, pk_us⟩⟩
    · rw [n2]
      refine cq_w_ent2 hfr (by rw [k9]; exact h1) k91 k101 (nm_r (nI_1 i) (hw 2 a9 a10 a11 (upd a12 1 (a12 1 + 1)) ?_))
      rw [cq_pic, if_pos hmv, if_neg c0]
      show cq_K s0 nm m1 (cq_pic mv i).1 ((cq_pic mv i).2 + 1) 2 a9 a10 a11 (upd a12 1 (a12 1 + 1))
      exact ⟨k9, k10, k11, by rw [pk_un (by decide), k12], Or.inr ⟨Nat.succ_ne_zero _, rfl, k91, k101, k111, by rw [pk_us, k121, nI_1]⟩⟩
theorem cq_w_exp0 {post : St2 → Prop} {s0 : Int64} {nm m1 fr : Int32} {mv : Nat → Bool} (hfr : fr = 0 ∨ fr = 1) (h1 : s0 ≠ 1)
    (hst : ∀ e, e < 3 → cq_step a4 sh s0 e = if mv e = true then 1 else 0) (hm : ∀ e, e < 3 → mv e = true → cq_names a4 nm e = m1)
    (hK : cq_K s0 nm m1 0 0 nd a9 a10 a11 a12)
    (H : ∀ nd a9 a10 a11 a12, cq_K s0 nm m1 (cq_pic mv 3).1 (cq_pic mv 3).2 nd a9 a10 a11 a12 → post (hh, ll, rr, sh, pd, lg, nd, a1, a2, a3, a4, a5, a6, a7, a8, a9, a10, a11, a12)) : wpX_expand post (hh, ll, rr, sh, pd, lg, nd, a1, a2, a3, a4, a5, a6, a7, a8, a9, a10, a11, a12) 0 fr :=
  pk_loop (σ := Int32 × (Nat → Int64) × (Nat → Int32) × (Nat → Int32) × (Nat → Int32)) (fun n i s => wX_expand_2 post 0 fr n (nI i) hh ll rr sh pd lg s.1 a1 a2 a3 a4 a5 a6 a7 a8 s.2.1 s.2.2.1 s.2.2.2.1 s.2.2.2.2)
    (fun i s => cq_K s0 nm m1 (cq_pic mv i).1 (cq_pic mv i).2 s.1 s.2.1 s.2.2.1 s.2.2.2.1 s.2.2.2.2) 3 0 (nd, a9, a10, a11, a12) (by omega) hK
    (fun n s hs => pk_le 3 3 (fun _ => H _ _ _ _ _ hs) (fun z => absurd z (by omega)))
    (fun n i s hi hs hw => cq_w_exS hi hfr h1 (hst i hi) (hm i hi) hs (fun nd' a9' a10' a11' a12' h' => hw (nd', a9', a10', a11', a12') h'))
/-- the second node leads nowhere -/
theorem cq_w_exp1 {post : St2 → Prop} {fr : Int32} (h9 : a9 1 = 1) (hst : ∀ e, e < 3 → cq_step a4 sh 1 e = 0) (hp : post (hh, ll, rr, sh, pd, lg, nd, a1, a2, a3, a4, a5, a6, a7, a8, a9, a10, a11, a12)) : wpX_expand post (hh, ll, rr, sh, pd, lg, nd, a1, a2, a3, a4, a5, a6, a7, a8, a9, a10, a11, a12) 1 fr :=
  pk_loop (σ := Unit) (fun n i _ => wX_expand_2 post 1 fr n (nI i) hh ll rr sh pd lg nd a1 a2 a3 a4 a5 a6 a7 a8 a9 a10 a11 a12) (fun _ _ => True) 3 0 () (by omega) trivial
    (fun n _ _ => pk_le 3 3 (fun _ => hp) (fun z => absurd z (by omega)))
    (fun n i _ hi _ hw => pk_le 3 i (fun z => absurd z (by omega)) (fun _ => ⟨pk_in 1 128 (by omega), by
      rw [cq_c1, h9]
      exact cq_w_step hi (br_t (hst i hi) (nm_r (nI_1 i) (hw () trivial)))⟩))
/-- a layer without nodes -/
theorem cq_w_wE {post : St2 → Prop} {ev : Int32} {n k : Nat} (hk : k < 4) (hl : a8 k = nd) (hp : wX_walk_55 post ev n (nI (k + 1)) hh ll rr sh pd lg nd a1 a2 a3 a4 a5 a6 a7 (upd a8 (k + 1) nd) a9 a10 a11 a12) : wX_walk_55 post ev (n + 1) (nI k) hh ll rr sh pd lg nd a1 a2 a3 a4 a5 a6 a7 a8 a9 a10 a11 a12 :=
  pk_le 4 k (fun z => absurd z (by omega)) (fun _ => ⟨pk_in (k + 1) 7 (by omega) (nI_1 k), nm_r (e' := upd a8 (k + 1) nd) (by rw [nI_1, nI_clamp (by omega)])
    ⟨pk_in k 7 (by omega), nm_r (e' := nd) (by rw [nI_clamp (by omega), pk_un (by omega), hl]) (Exists.intro (0 + 1) (br_t (Int32.le_refl nd) (nm_r (nI_1 k) hp)))⟩⟩)
/-- the walk's end, behind its second layer -/
theorem cq_w_wF {post : St2 → Prop} {ev : Int32} (h81 : a8 1 = 1) (h8 : a8 2 = nd) (hp : ∀ a8, cq_L nd a8 → post (hh, ll, rr, sh, pd, lg, nd, a1, a2, a3, a4, a5, a6, a7, a8, a9, a10, a11, a12)) : wX_walk_55 post ev (0 + 1 + 1 + 1) (nI 2) hh ll rr sh pd lg nd a1 a2 a3 a4 a5 a6 a7 a8 a9 a10 a11 a12 := by
  refine cq_w_wE (by omega) h8 (cq_w_wE (by omega) pk_us ?_)
  refine pk_le 4 4 (fun _ => nm_e (hp _ ⟨?_, ?_, ?_⟩)) (fun z => absurd z (by omega))
  · rw [pk_un (by decide), pk_un (by decide), pk_un (by decide), h81]
  · rw [pk_un (by decide), pk_un (by decide), pk_un (by decide), h8]
  · rw [pk_un (by decide)]
    exact pk_us
/-- the second layer -/
theorem cq_w_w1 {post : St2 → Prop} {s0 : Int64} {nm m1 ev : Int32} {w c : Nat} (hst1 : ∀ e, e < 3 → cq_step a4 sh 1 e = 0) (hK : cq_K s0 nm m1 w c nd a9 a10 a11 a12) (h81 : a8 1 = 1) (hp : ∀ a8, cq_L nd a8 → post (hh, ll, rr, sh, pd, lg, nd, a1, a2, a3, a4, a5, a6, a7, a8, a9, a10, a11, a12)) : wX_walk_55 post ev (0 + 1 + 1 + 1 + 1) (nI 1) hh ll rr sh pd lg nd a1 a2 a3 a4 a5 a6 a7 a8 a9 a10 a11 a12 := by
  obtain ⟨k9, k10, k11, k12, hk⟩ := hK
  rcases hk with ⟨c0, n1⟩ | ⟨c0, n2, k91, k101, k111, k121⟩
  · rw [n1] at hp ⊢
    exact cq_w_wE (by omega) h81 (cq_w_wF (by rw [pk_un (by decide), h81]) pk_us hp)
  · rw [n2] at hp ⊢
    have F : wX_walk_55 post ev (0 + 1 + 1 + 1) (nI 2) hh ll rr sh pd lg 2 a1 a2 a3 a4 a5 a6 a7 (upd a8 2 2) a9 a10 a11 a12 := cq_w_wF (by rw [pk_un (by decide), h81]) pk_us hp
    have G : ∀ n, wX_walk_84 post (wX_walk_55 post ev (0 + 1 + 1 + 1)) ev (nI 1) 2 (n + 1) 2 hh ll rr sh pd lg 2 a1 a2 a3 a4 a5 a6 a7 (upd a8 2 2) a9 a10 a11 a12 := fun n => br_t (by decide) (nm_r (nI_1 1) F)
    refine pk_le 4 1 (fun z => absurd z (by omega)) (fun _ => ⟨pk_in 2 7 (by omega) (nI_1 1), nm_r (e' := upd a8 2 2) (congrArg (fun k => upd a8 k 2) (show (nI 1 + 1).toNatClampNeg = 2 by decide +kernel))
      ⟨pk_in 1 7 (by omega), nm_r (e' := 1) (by rw [nI_clamp (by omega), pk_un (by decide), h81]) (Exists.intro (0 + 1 + 1) (br_f (show ¬ (2 : Int32) ≤ 1 by decide) (br_c (fun _ => ?_) (fun _ => ?_))))⟩⟩)
    · unfold wX_walk_104
      exact cq_w_exp1 k91 hst1 (nm_r (e' := 2) (by decide) (G 0))
    · unfold wX_walk_104
      exact cq_w_exp1 k91 hst1 (nm_r (e' := 2) (by decide) (G 0))
theorem cq_w_walk {post : St2 → Prop} {nm m1 ev : Int32} {mv : Nat → Bool} (h1 : cq_S ll rr ≠ 1)
    (hst : ∀ e, e < 3 → cq_step a4 sh (cq_S ll rr) e = if mv e = true then 1 else 0) (hst1 : ∀ e, e < 3 → cq_step a4 sh 1 e = 0) (hm : ∀ e, e < 3 → mv e = true → cq_names a4 nm e = m1)
    (H : ∀ nd a8 a9 a10 a11 a12, cq_K (cq_S ll rr) nm m1 (cq_pic mv 3).1 (cq_pic mv 3).2 nd a9 a10 a11 a12 → cq_L nd a8 → post (hh, ll, rr, sh, pd, lg, nd, a1, a2, a3, a4, a5, a6, a7, a8, a9, a10, a11, a12)) : wpX_walk post (hh, ll, rr, sh, pd, lg, nd, a1, a2, a3, a4, a5, a6, a7, a8, a9, a10, a11, a12) nm ev := by
  unfold wpX_walk
  refine nm_r (e' := vp_updL a9 0 (cq_S ll rr)) rfl (nm_e (nm_e (nm_e (nm_e (Exists.intro (0 + 1 + 1 + 1 + 1 + 1) ?_)))))
  have K : cq_K (cq_S ll rr) nm m1 0 0 1 (vp_updL a9 0 (cq_S ll rr)) (upd a10 0 nm) (upd a11 0 0) (upd a12 0 1) := ⟨pk_uLs, pk_us, pk_us, pk_us, Or.inl ⟨rfl, rfl⟩⟩
  have G : ∀ nd a9 a10 a11 a12, cq_K (cq_S ll rr) nm m1 (cq_pic mv 3).1 (cq_pic mv 3).2 nd a9 a10 a11 a12 → ∀ n, wX_walk_84 post (wX_walk_55 post ev (0 + 1 + 1 + 1 + 1)) ev 0 1 (n + 1) 1 hh ll rr sh pd lg nd a1 a2 a3 a4 a5 a6 a7 (upd (upd a8 0 0) 1 1) a9 a10 a11 a12 :=
    fun nd a9 a10 a11 a12 hK n => br_t (by decide) (nm_r (e' := nI 1) (by decide) (cq_w_w1 hst1 hK pk_us (fun a8 hL => H nd a8 a9 a10 a11 a12 hK hL)))
  refine pk_le 4 0 (fun z => absurd z (by omega)) (fun _ => ⟨pk_in 1 7 (by omega) (by decide), nm_r (e' := upd (upd a8 0 0) 1 1) (by rw [show ((0 : Int32) + 1).toNatClampNeg = 1 by decide +kernel])
    ⟨pk_in 0 7 (by omega), nm_r (e' := 0) (by rw [cq_c0, pk_un (by decide), pk_us]) (Exists.intro (0 + 1 + 1) (br_f (show ¬ (1 : Int32) ≤ 0 by decide) (br_c (fun _ => ?_) (fun _ => ?_))))⟩⟩)
  · unfold wX_walk_104
    exact cq_w_exp0 (Or.inl rfl) h1 hst hm K (fun nd a9 a10 a11 a12 hK => nm_r (e' := 1) (by decide) (G nd a9 a10 a11 a12 hK 0))
  · unfold wX_walk_104
    exact cq_w_exp0 (Or.inr rfl) h1 hst hm K (fun nd a9 a10 a11 a12 hK => nm_r (e' := 1) (by decide) (G nd a9 a10 a11 a12 hK 0))
end
end
section
section
variable {hh ll rr sh pd lg nd : Int32} {a1 a2 a3 a4 a5 a6 : Nat → Int32} {a7 : Nat → Int64} {a8 : Nat → Int32} {a9 : Nat → Int64} {a10 a11 a12 : Nat → Int32}
/-- what a walk needs of the system: nm the names, m1 what they become, mv the events that move -/
abbrev cq_ok (N : Nat → Int32) (l r sh nm m1 : Int32) (mv : Nat → Bool) : Prop :=
  cq_S l r ≠ 1 ∧ (∀ e, e < 3 → cq_step N sh (cq_S l r) e = if mv e = true then 1 else 0) ∧ (∀ e, e < 3 → cq_step N sh 1 e = 0) ∧ (∀ e, e < 3 → mv e = true → cq_names N nm e = m1)
theorem cq_w_gapNode {post : Int32 → St2 → Prop} {m1 : Int32} {mv : Nat → Bool} {k kind : Nat} (hk : kind < 2) (hok : cq_ok a4 ll rr sh ((1 : Int32) <<< (nI k &&& 31)) m1 mv) (hc : (cq_pic mv 3).2 ≠ 0)
    (hP : ¬ pd = 0 → cq_Tk a3 sh 64 a5)
    (H : ∀ pd nd a5 a8 a9 a10 a11 a12, (¬ pd = 0 → cq_Tk a3 sh 64 a5) → cq_K (cq_S ll rr) ((1 : Int32) <<< (nI k &&& 31)) m1 (cq_pic mv 3).1 (cq_pic mv 3).2 nd a9 a10 a11 a12 →
      post (cq_gn a3 sh (cq_S ll rr) ((1 : Int32) <<< (nI k &&& 31)) m1 kind) (hh, ll, rr, sh, pd, lg, nd, a1, a2, a3, a4, a5, a6, a7, a8, a9, a10, a11, a12)) : wpX_gapNode post (hh, ll, rr, sh, pd, lg, nd, a1, a2, a3, a4, a5, a6, a7, a8, a9, a10, a11, a12) (nI k) (nI kind) := by
  unfold wpX_gapNode
  refine cq_w_walk hok.1 hok.2.1 hok.2.2.1 hok.2.2.2 (fun nd a8 a9 a10 a11 a12 hK hL => ?_)
  have hK' := hK
  obtain ⟨k9, k10, k11, k12, hkk⟩ := hK'
  rcases hkk with ⟨c0, n1⟩ | ⟨c0, n2, k91, k101, k111, k121⟩
  · exact absurd c0 hc
  subst n2
  refine Exists.intro (0 + 1 + 1 + 1) ?_
  refine br_f (show ¬ (2 : Int32) ≤ 0 by decide) (pk_eq kind 0 (fun z => ?_) (fun z => ?_))
  · have H' := fun a5 => H pd 2 a5 a8 a9 a10 a11 a12
    rw [cq_gn, if_pos z] at H'
    refine ⟨pk_in 0 128 (by omega), br_c (fun g => ?_) (fun g => nm_r (e' := 1) (by decide) ?_)⟩
    · rw [cq_c0, k10] at g
      rw [if_pos g] at H'
      exact H' a5 hP hK
    · rw [cq_c0, k10] at g
      rw [if_neg g] at H'
      refine br_f (show ¬ (2 : Int32) ≤ 1 by decide) (pk_eq kind 0 (fun _ => ?_) (fun q => absurd z q))
      refine ⟨pk_in 1 128 (by omega), br_c (fun g1 => ?_) (fun g1 => nm_r (e' := 2) (by decide) (br_t (by decide) ?_))⟩
      · rw [cq_c1, k101] at g1
        rw [if_pos g1] at H'
        exact H' a5 hP hK
      · rw [cq_c1, k101] at g1
        rw [if_neg g1] at H'
        exact H' a5 hP hK
  · refine cq_w_excess (i := 0) (by omega) hP (fun pd a5 ht => ?_)
    have H' := fun pd a5 => H pd 2 a5 a8 a9 a10 a11 a12
    rw [cq_gn, if_neg z] at H'
    rw [k9, k10]
    refine br_c (fun g => nm_r (e' := 1) (by decide) ?_) (fun g => ?_)
    · rw [if_pos g] at H'
      refine br_f (show ¬ (2 : Int32) ≤ 1 by decide) (pk_eq kind 0 (fun q => absurd q z) (fun _ => ?_))
      refine cq_w_excess (i := 1) (by omega) (fun _ => ht) (fun pd a5 ht => ?_)
      rw [k91, k101]
      refine br_c (fun g1 => nm_r (e' := 2) (by decide) (br_t (by decide) ?_)) (fun g1 => ?_)
      · rw [if_pos g1] at H'
        exact H' pd a5 (fun _ => ht) hK
      · rw [if_neg g1] at H'
        exact H' pd a5 (fun _ => ht) hK
    · rw [if_neg g] at H'
      exact H' pd a5 (fun _ => ht) hK
theorem cq_gn3 (R : Nat → Int32) (s : Int32) (s0 : Int64) (nm m1 : Int32) (kind : Nat) : cq_gn R s s0 nm m1 kind = 0 ∨ cq_gn R s s0 nm m1 kind = 1 ∨ cq_gn R s s0 nm m1 kind = -1 := by
  unfold cq_gn
  split
  · split
    · exact Or.inl rfl
    · split
      · exact Or.inr (Or.inl rfl)
      · exact Or.inr (Or.inr rfl)
  · split
    · split
      · exact Or.inr (Or.inr rfl)
      · exact Or.inr (Or.inl rfl)
    · exact Or.inl rfl
theorem cq_w_gap {post : Int32 → St2 → Prop} {m1 : Int32} {mv : Nat → Bool} {k kind : Nat} (hk8 : k < 8) (hk : kind < 2) (hok : cq_ok a4 ll rr sh ((1 : Int32) <<< (nI k &&& 31)) m1 mv) (hc : (cq_pic mv 3).2 ≠ 0)
    (hP : ¬ pd = 0 → cq_Tk a3 sh 64 a5)
    (H : ∀ pd nd a5 a8 a9 a10 a11 a12, (¬ pd = 0 → cq_Tk a3 sh 64 a5) →
      post (cq_gap (cq_gn a3 sh (cq_S ll rr) ((1 : Int32) <<< (nI k &&& 31)) m1 kind) (cq_pic mv 3).1) (hh, ll, rr, sh, pd, lg, nd, a1, a2, a3, a4, a5, a6, a7, a8, a9, a10, a11, a12)) : wpX_gap post (hh, ll, rr, sh, pd, lg, nd, a1, a2, a3, a4, a5, a6, a7, a8, a9, a10, a11, a12) (nI k) (nI kind) := by
  refine pk_lt k 0 (fun z => absurd z (by omega)) (fun _ => pk_lt 7 k (fun z => absurd z (by omega)) (fun _ => pk_lt kind 0 (fun z => absurd z (by omega)) (fun _ => pk_le kind 1 (fun _ => ?_) (fun z => absurd z (by omega)))))
  refine cq_w_gapNode hk hok hc hP (fun pd nd a5 a8 a9 a10 a11 a12 hP hK => ?_)
  have H' := H pd nd a5 a8 a9 a10 a11 a12 hP
  obtain ⟨k9, k10, k11, k12, hk⟩ := hK
  rcases hk with ⟨c0, n1⟩ | ⟨c0, n2, k91, k101, k111, k121⟩
  · exact absurd c0 hc
  rcases cq_gn3 a3 sh (cq_S ll rr) ((1 : Int32) <<< (nI k &&& 31)) m1 kind with g | g | g
  · rw [g] at H' ⊢
    rw [cq_gap, if_pos rfl] at H'
    refine br_t (by decide) ⟨pk_in 0 128 (by omega), ?_⟩
    rw [cq_c0, k11]
    exact H'
  · rw [g] at H' ⊢
    rw [cq_gap, if_neg (by decide), if_pos rfl] at H'
    refine br_t (by decide) ⟨pk_in 1 128 (by omega), ?_⟩
    rw [cq_c1, k111]
    exact H'
  · rw [g] at H' ⊢
    rw [cq_gap, if_neg (by decide), if_neg (by decide)] at H'
    exact br_f (by decide) H'
theorem cq_w_low {post : Int32 → St2 → Prop} {x : Int32} : ∀ k i, i + k = 8 → post (cq_low x k i) (hh, ll, rr, sh, pd, lg, nd, a1, a2, a3, a4, a5, a6, a7, a8, a9, a10, a11, a12) → wX_gapRefusal_35 post x hh ll rr sh pd lg nd a1 a2 a3 a4 a5 a6 a7 a8 a9 a10 a11 a12 (k + 1) (nI i) := by
  intro k
  induction k with
  | zero =>
    intro i hi hp
    have e1 : i = 8 := by omega
    subst e1
    exact pk_le 8 8 (fun _ => hp) (fun z => absurd z (by omega))
  | succ k ih =>
    intro i hi hp
    rw [cq_low] at hp
    refine pk_le 8 i (fun z => absurd z (by omega)) (fun _ => br_c (fun c => ?_) (fun c => nm_r (nI_1 i) (ih (i + 1) (by omega) ?_)))
    · rw [if_pos c] at hp
      exact hp
    · rw [if_neg c] at hp
      exact hp
theorem cq_w_gref {post : Int32 → St2 → Prop} {m1 : Int32} {mv : Nat → Bool} {k : Nat} (hk8 : k < 8) (hok : cq_ok a4 ll rr sh ((1 : Int32) <<< (nI k &&& 31)) m1 mv) (hc : (cq_pic mv 3).2 ≠ 0)
    (hP : ¬ pd = 0 → cq_Tk a3 sh 64 a5)
    (H : ∀ pd nd a5 a8 a9 a10 a11 a12, (¬ pd = 0 → cq_Tk a3 sh 64 a5) →
      post (cq_gref a3 sh (cq_S ll rr) ((1 : Int32) <<< (nI k &&& 31)) m1 (cq_gn a3 sh (cq_S ll rr) ((1 : Int32) <<< (nI k &&& 31)) m1 1)) (hh, ll, rr, sh, pd, lg, nd, a1, a2, a3, a4, a5, a6, a7, a8, a9, a10, a11, a12)) : wpX_gapRefusal post (hh, ll, rr, sh, pd, lg, nd, a1, a2, a3, a4, a5, a6, a7, a8, a9, a10, a11, a12) (nI k) := by
  refine pk_lt k 0 (fun z => absurd z (by omega)) (fun _ => pk_le k 7 (fun _ => ?_) (fun z => absurd z (by omega)))
  refine cq_w_gapNode (kind := 1) (by omega) hok hc hP (fun pd nd a5 a8 a9 a10 a11 a12 hP hK => ?_)
  have H' := fun pd a5 => H pd nd a5 a8 a9 a10 a11 a12
  obtain ⟨k9, k10, k11, k12, hk⟩ := hK
  rcases hk with ⟨c0, n1⟩ | ⟨c0, n2, k91, k101, k111, k121⟩
  · exact absurd c0 hc
  rcases cq_gn3 a3 sh (cq_S ll rr) ((1 : Int32) <<< (nI k &&& 31)) m1 1 with g | g | g
  · rw [g] at H' ⊢
    rw [cq_gref, if_pos rfl] at H'
    refine br_t (by decide) (cq_w_excess (i := 0) (by omega) hP (fun pd a5 ht => ?_))
    rw [k9, k10]
    exact Exists.intro (8 + 1) (cq_w_low 8 0 (by omega) (H' pd a5 (fun _ => ht)))
  · rw [g] at H' ⊢
    rw [cq_gref, if_neg (by decide), if_pos rfl] at H'
    refine br_t (by decide) (cq_w_excess (i := 1) (by omega) hP (fun pd a5 ht => ?_))
    rw [k91, k101]
    exact Exists.intro (8 + 1) (cq_w_low 8 0 (by omega) (H' pd a5 (fun _ => ht)))
  · rw [g] at H' ⊢
    rw [cq_gref, if_neg (by decide), if_neg (by decide)] at H'
    exact br_f (by decide) (H' pd a5 hP)
theorem cq_w_refined {post : Int32 → St2 → Prop} {m : Nat → Int32} {mv : Nat → Bool} {kind : Nat} (hk : kind < 2) (hok : ∀ k, k < 8 → cq_ok a4 ll rr sh ((1 : Int32) <<< (nI k &&& 31)) (m k) mv) (hc : (cq_pic mv 3).2 ≠ 0)
    (hP : ¬ pd = 0 → cq_Tk a3 sh 64 a5)
    (H : ∀ pd nd a5 a8 a9 a10 a11 a12, (¬ pd = 0 → cq_Tk a3 sh 64 a5) →
      post (cq_fo (cq_rfS a3 sh (cq_S ll rr) m kind) 8 0 0) (hh, ll, rr, sh, pd, lg, nd, a1, a2, a3, a4, a5, a6, a7, a8, a9, a10, a11, a12)) : wpX_refined post (hh, ll, rr, sh, pd, lg, nd, a1, a2, a3, a4, a5, a6, a7, a8, a9, a10, a11, a12) (nI kind) := by
  refine pk_lt kind 0 (fun z => absurd z (by omega)) (fun _ => pk_le kind 1 (fun _ => ?_) (fun z => absurd z (by omega)))
  exact cq_lq (β := Int32 × Int32 × (Nat → Int32) × (Nat → Int32) × (Nat → Int64) × (Nat → Int32) × (Nat → Int32) × (Nat → Int32))
    (fun n i s b => wX_refined_15 post (nI kind) n s (nI i) hh ll rr sh b.1 lg b.2.1 a1 a2 a3 a4 b.2.2.1 a6 a7 b.2.2.2.1 b.2.2.2.2.1 b.2.2.2.2.2.1 b.2.2.2.2.2.2.1 b.2.2.2.2.2.2.2)
    (fun b => ¬ b.1 = 0 → cq_Tk a3 sh 64 b.2.2.1) (cq_rfS a3 sh (cq_S ll rr) m kind) 8 0 (pd, nd, a5, a8, a9, a10, a11, a12) hP
    (fun n i s b hi hb hw => pk_le 8 i (fun z => absurd z (by omega)) (fun _ => cq_w_gapNode hk (hok i hi) hc hb (fun pd nd a5 a8 a9 a10 a11 a12 hP' _ => br_c
      (fun c => nm_r (nI_1 i) (by have t := hw (pd, nd, a5, a8, a9, a10, a11, a12) hP'; rw [cq_rfS, if_pos c] at t; exact t))
      (fun c => nm_e (nm_r (nI_1 i) (by have t := hw (pd, nd, a5, a8, a9, a10, a11, a12) hP'; rw [cq_rfS, if_neg c] at t; exact t))))))
    (fun n b hb => pk_le 8 8 (fun _ => H b.1 b.2.1 b.2.2.1 b.2.2.2.1 b.2.2.2.2.1 b.2.2.2.2.2.1 b.2.2.2.2.2.2.1 b.2.2.2.2.2.2.2 hb) (fun z => absurd z (by omega)))
theorem cq_w_deadlock {post : Int32 → St2 → Prop} {mv : Nat → Bool} (hok : cq_ok a4 ll rr sh 0 0 mv)
    (hP : ¬ pd = 0 → cq_Tk a3 sh 64 a5)
    (H : ∀ pd nd a5 a8 a9 a10 a11 a12, (¬ pd = 0 → cq_Tk a3 sh 64 a5) → post (cq_dead a3 sh (cq_S ll rr) (cq_pic mv 3).1 (cq_pic mv 3).2) (hh, ll, rr, sh, pd, lg, nd, a1, a2, a3, a4, a5, a6, a7, a8, a9, a10, a11, a12)) : wpX_deadlock post (hh, ll, rr, sh, pd, lg, nd, a1, a2, a3, a4, a5, a6, a7, a8, a9, a10, a11, a12) := by
  unfold wpX_deadlock
  refine cq_w_walk hok.1 hok.2.1 hok.2.2.1 hok.2.2.2 (fun nd a8 a9 a10 a11 a12 hK hL => ?_)
  have H' := fun pd a5 => H pd nd a5 a8 a9 a10 a11 a12
  rw [cq_dead] at H'
  obtain ⟨k9, k10, k11, k12, hk⟩ := hK
  refine Exists.intro (0 + 1 + 1 + 1) ?_
  rcases hk with ⟨c0, n1⟩ | ⟨c0, n2, k91, k101, k111, k121⟩
  · subst n1
    rw [if_pos c0] at H'
    refine br_f (show ¬ (1 : Int32) ≤ 0 by decide) ⟨pk_in 0 128 (by omega), ?_⟩
    rw [cq_c0, k9]
    refine cq_w_refusals hP (fun pd a5 ht => br_c (fun g => ⟨pk_in 0 128 (by omega), ?_⟩) (fun g => nm_r (e' := 1) (by decide) (br_t (by decide) ?_)))
    · rw [if_pos g] at H'
      rw [k11]
      exact H' pd a5 (fun _ => ht)
    · rw [if_neg g] at H'
      exact H' pd a5 (fun _ => ht)
  · subst n2
    rw [if_neg c0] at H'
    refine br_f (show ¬ (2 : Int32) ≤ 0 by decide) ⟨pk_in 0 128 (by omega), ?_⟩
    rw [cq_c0, k9]
    refine cq_w_refusals hP (fun pd a5 ht => br_c (fun g => ⟨pk_in 0 128 (by omega), ?_⟩) (fun g => nm_r (e' := 1) (by decide) (br_f (show ¬ (2 : Int32) ≤ 1 by decide) ⟨pk_in 1 128 (by omega), ?_⟩)))
    · rw [if_pos g] at H'
      rw [k11]
      exact H' pd a5 (fun _ => ht)
    · rw [if_neg g] at H'
      rw [cq_c1, k91]
      refine cq_w_refusals (fun _ => ht) (fun pd a5 ht => br_c (fun g1 => ⟨pk_in 1 128 (by omega), ?_⟩) (fun g1 => nm_r (e' := 2) (by decide) (br_t (by decide) ?_)))
      · rw [if_pos g1] at H'
        rw [k111]
        exact H' pd a5 (fun _ => ht)
      · rw [if_neg g1] at H'
        exact H' pd a5 (fun _ => ht)
theorem cq_w_traces {post : Int32 → St2 → Prop} {mv : Nat → Bool} (hok : cq_ok a4 ll rr sh 0 0 mv)
    (H : ∀ nd a8 a9 a10 a11 a12, post (nI (cq_pic mv 3).2) (hh, ll, rr, sh, pd, lg, nd, a1, a2, a3, a4, a5, a6, a7, a8, a9, a10, a11, a12)) : wpX_traces post (hh, ll, rr, sh, pd, lg, nd, a1, a2, a3, a4, a5, a6, a7, a8, a9, a10, a11, a12) 1 := by
  refine br_f (show ¬ (1 : Int32) < 0 by decide) (br_t (show (1 : Int32) ≤ 4 by decide) ?_)
  refine cq_w_walk hok.1 hok.2.1 hok.2.2.1 hok.2.2.2 (fun nd a8 a9 a10 a11 a12 hK hL => ?_)
  have H' := H nd a8 a9 a10 a11 a12
  obtain ⟨k9, k10, k11, k12, hk⟩ := hK
  obtain ⟨l1, l2, l4⟩ := hL
  have e2 : ((1 : Int32) + 1).toNatClampNeg = 2 := by decide +kernel
  refine ⟨pk_in 1 7 (by omega), nm_r (e' := 1) (by rw [cq_c1, l1]) (Exists.intro (0 + 1 + 1) ?_)⟩
  rcases hk with ⟨c0, n1⟩ | ⟨c0, n2, k91, k101, k111, k121⟩
  · subst n1
    refine And.intro (pk_in 2 7 (by omega) (by decide)) (br_t (by rw [e2, l2] <;> decide) ?_)
    rw [c0] at H'
    exact H'
  · subst n2
    refine And.intro (pk_in 2 7 (by omega) (by decide)) (br_f (by rw [e2, l2] <;> decide) ⟨pk_in 1 128 (by omega), nm_r (e' := nI (cq_pic mv 3).2) (by rw [cq_c1, k121, show (0 : Int32) = nI 0 from rfl, nI_add, Nat.zero_add]) (nm_r (e' := 2) (by decide) (And.intro (pk_in 2 7 (by omega) (by decide)) (br_t (by rw [e2, l2] <;> decide) H')))⟩)
theorem cq_w_un {post : Int32 → St2 → Prop} {J : Int32 → Int32 → Int32 → Int32 → Int32 → Int32 → Int32 → Int32 → (Nat → Int32) → (Nat → Int32) → (Nat → Int32) → (Nat → Int32) → (Nat → Int32) → (Nat → Int32) → (Nat → Int64) → (Nat → Int32) → (Nat → Int64) → (Nat → Int32) → (Nat → Int32) → (Nat → Int32) → Prop} {fam : Int32} {x : Nat} (hx : x < 128) :
    ∀ k i, i + k = 3 → (∀ v, cq_un (fun e => cq_step a4 sh (a9 x) e) fam (a11 x) k i = some v → post v (hh, ll, rr, sh, pd, lg, nd, a1, a2, a3, a4, a5, a6, a7, a8, a9, a10, a11, a12)) → (cq_un (fun e => cq_step a4 sh (a9 x) e) fam (a11 x) k i = none → J (nI (x + 1)) hh ll rr sh pd lg nd a1 a2 a3 a4 a5 a6 a7 a8 a9 a10 a11 a12) →
    wX_unsure_31 post J (nI x) fam hh ll rr sh pd lg nd a1 a2 a3 a4 a5 a6 a7 a8 a9 a10 a11 a12 (k + 1) (nI i) := by
  intro k
  induction k with
  | zero =>
    intro i hi h1 h2
    have e1 : i = 3 := by omega
    subst e1
    exact pk_le 3 3 (fun _ => nm_r (nI_1 x) (h2 rfl)) (fun z => absurd z (by omega))
  | succ k ih =>
    intro i hi h1 h2
    rw [cq_un] at h1 h2
    refine pk_le 3 i (fun z => absurd z (by omega)) (fun _ => ⟨pk_in x 128 hx, ?_⟩)
    rw [nI_clamp (show x < 2 ^ 31 by omega)]
    refine cq_w_step (by omega) (br_c (fun c => ?_) (fun c => br_c (fun g => ⟨pk_in x 128 hx, ?_⟩) (fun g => ?_)))
    · rw [if_pos c] at h1 h2
      exact nm_r (nI_1 i) (ih (i + 1) (by omega) h1 h2)
    · rw [if_neg c, if_pos g] at h1
      exact h1 _ rfl
    · rw [if_neg c, if_neg g] at h1 h2
      exact nm_r (nI_1 i) (ih (i + 1) (by omega) h1 h2)
theorem cq_un0 {st : Nat → Int64} {fam cd : Int32} : ∀ k i, i + k = 3 → (∀ e, e < 3 → st e = 0) → cq_un st fam cd k i = none := by
  intro k
  induction k with
  | zero => intro i hi h; rfl
  | succ k ih =>
    intro i hi h
    rw [cq_un, if_pos (h i (by omega))]
    exact ih (i + 1) (by omega) h
theorem cq_w_unsure {post : Int32 → St2 → Prop} {mv : Nat → Bool} (hok : cq_ok a4 ll rr sh 0 0 mv) (hc : (cq_pic mv 3).2 ≠ 0)
    (hP : ¬ pd = 0 → cq_Tk a3 sh 64 a5)
    (H : ∀ pd nd a5 a8 a9 a10 a11 a12, (¬ pd = 0 → cq_Tk a3 sh 64 a5) → post (cq_uns a4 a3 sh (cq_S ll rr)) (hh, ll, rr, sh, pd, lg, nd, a1, a2, a3, a4, a5, a6, a7, a8, a9, a10, a11, a12)) : wpX_unsure post (hh, ll, rr, sh, pd, lg, nd, a1, a2, a3, a4, a5, a6, a7, a8, a9, a10, a11, a12) := by
  unfold wpX_unsure
  refine cq_w_walk hok.1 hok.2.1 hok.2.2.1 hok.2.2.2 (fun nd a8 a9 a10 a11 a12 hK hL => ?_)
  have H' := fun pd a5 => H pd nd a5 a8 a9 a10 a11 a12
  rw [cq_uns] at H'
  obtain ⟨k9, k10, k11, k12, hk⟩ := hK
  obtain ⟨l1, l2, l4⟩ := hL
  rcases hk with ⟨c0, n1⟩ | ⟨c0, n2, k91, k101, k111, k121⟩
  · exact absurd c0 hc
  subst n2
  refine Exists.intro (0 + 1 + 1 + 1) (br_f (by rw [l4] <;> decide) ⟨pk_in 0 128 (by omega), ?_⟩)
  rw [cq_c0, k9]
  refine cq_w_refusals hP (fun pd a5 ht => Exists.intro (3 + 1) (cq_w_un (x := 0) (by omega) 3 0 (by omega) (fun v hv => ?_) (fun hv => ?_)))
  · rw [k9, k11] at hv
    rw [hv] at H'
    exact H' pd a5 (fun _ => ht)
  · rw [k9, k11] at hv
    rw [hv] at H'
    refine br_f (by rw [l4] <;> decide) ⟨pk_in 1 128 (by omega), ?_⟩
    rw [show (nI (0 + 1)).toNatClampNeg = 1 from nI_clamp (by omega), k91]
    refine cq_w_refusals (fun _ => ht) (fun pd a5 ht => Exists.intro (3 + 1) (cq_w_un (x := 1) (by omega) 3 0 (by omega) (fun v hv => ?_) (fun _ => ?_)))
    · rw [cq_un0 3 0 (by omega) (fun e he => by rw [k91]; exact hok.2.2.1 e he)] at hv
      exact absurd hv.symm (Option.some_ne_none v)
    · exact br_t (by rw [l4] <;> decide) (H' pd a5 (fun _ => ht))
end
end
section
section
variable {hh ll rr sh pd lg nd : Int32} {a1 a2 a3 a4 a5 a6 : Nat → Int32} {a7 : Nat → Int64} {a8 : Nat → Int32} {a9 : Nat → Int64} {a10 a11 a12 : Nat → Int32}
theorem cq_w_init {post : St2 → Prop} {mc ms : Nat} (hc : 12 ≤ mc) (hs : 648 ≤ ms)
    (hp : post (hh, ll, rr, 7, pd, lg, nd, (fun _ => 0), (fun _ => 0), cq_R0, (fun _ => 0), (fun _ => 0), (fun _ => 0), vp_updL (fun _ => 0) 0 1, (fun _ => 0), (fun _ => 0), (fun _ => 0), (fun _ => 0), (fun _ => 0))) : wpX_init post mc ms (hh, ll, rr, sh, pd, lg, nd) := by
  unfold wpX_init
  refine ⟨by omega, by omega, by omega, by omega, by omega, by omega, by omega, by omega, by omega, by omega, by omega, by omega, by omega, by omega, by omega, by omega, by omega, by omega, by omega, by omega, by omega, by omega, by omega, by omega, ?_⟩
  exact cq_lp (fun n i s => wX_init_104 post mc ms 12 648 hh ll rr sh pd lg nd n (nI i) (fun _ => 0) (fun _ => 0) s (fun _ => 0) (fun _ => 0) (fun _ => 0) (fun _ => 0) (fun _ => 0) (fun _ => 0) (fun _ => 0) (fun _ => 0) (fun _ => 0)) (fun i s => upd s (nI i).toNatClampNeg 255) 8 (fun _ => 0)
    (fun n i s hi hw => pk_le 8 i (fun z => absurd z (by omega)) (fun _ => ⟨pk_in i 8 hi, nm_e (nm_r (nI_1 i) hw)⟩))
    (fun n => pk_le 8 8 (fun _ => nm_e hp) (fun z => absurd z (by omega)))
theorem cq_w_name {post : Int32 → Prop} {x : Int32} (hp : ∀ a, a < 3 → post (nI a)) : wpL_name post () x := by
  obtain ⟨j, hj, e⟩ := pk_andE x (m := 3) 2 (by decide)
  exact nm_r e (pk_eq j 3 (fun _ => hp 0 (by omega)) (fun z => hp j (by omega)))
theorem cq_w_push {post : St2 → Prop} {k : Nat} {x : Int32} (hk : k < 6)
    (H : ∀ a2', (∀ e, e < 3 → a2' (k * 3 + e) = 0) → (∀ j, j < k * 3 → a2' j = a2 j) → post (nI (k + 1), ll, rr, sh, pd, lg, nd, upd a1 k x, a2', a3, a4, a5, a6, a7, a8, a9, a10, a11, a12)) : wpX_push post (nI k, ll, rr, sh, pd, lg, nd, a1, a2, a3, a4, a5, a6, a7, a8, a9, a10, a11, a12) x := by
  unfold wpX_push
  refine ⟨pk_in k 6 hk, nm_r (e' := upd a1 k x) (by rw [nI_clamp (by omega)]) ?_⟩
  exact pk_loop (fun n i s => wX_push_12 post (nI k) ll rr sh pd lg nd n (nI i) (upd a1 k x) s a3 a4 a5 a6 a7 a8 a9 a10 a11 a12) (fun i s => (∀ e, e < i → s (k * 3 + e) = 0) ∧ (∀ j, j < k * 3 → s j = a2 j)) 3 0 a2 (by omega)
    ⟨fun e he => absurd he (by omega), fun j _ => rfl⟩
    (fun n s hs => pk_le 3 3 (fun _ => nm_r (nI_1 k) (H s hs.1 hs.2)) (fun z => absurd z (by omega)))
    (fun n i s hi hs hw => pk_le 3 i (fun z => absurd z (by omega)) (fun _ => ⟨cq_in3 (by omega) (by omega), nm_r (e' := upd s (k * 3 + i) 0) (by rw [cq_ix3 (by omega)]) (nm_r (nI_1 i) (hw _ ⟨fun e he => by
      by_cases z : e = i
      · rw [z, pk_us]
      · rw [pk_un (by omega)]
        exact hs.1 e (by omega), fun j hj => by
      rw [pk_un (by omega)]
      exact hs.2 j hj⟩))⟩))
theorem cq_w_pre {post : Int32 → St2 → Prop} {k a : Nat} (hk : k < 6) (ha : a < 3)
    (H : ∀ a2', (∀ e, e < 3 → a2' (k * 3 + e) = cq_dl a e) → (∀ j, j < k * 3 → a2' j = a2 j) → post (nI (k + 1)) (nI (k + 1), ll, rr, sh, pd, lg, nd, upd a1 k (cq_F a), a2', a3, a4, a5, a6, a7, a8, a9, a10, a11, a12)) : wpX_pre post (nI k, ll, rr, sh, pd, lg, nd, a1, a2, a3, a4, a5, a6, a7, a8, a9, a10, a11, a12) (nI a) 0 := by
  refine pk_lt a 0 (fun z => absurd z (by omega)) (fun _ => pk_lt 2 a (fun z => absurd z (by omega)) (fun _ => br_f (by decide) (br_t (by decide) (pk_eq k 6 (fun z => absurd z (by omega)) (fun _ => ?_)))))
  refine cq_lp (fun n i s => wX_pre_38 post (nI a) 0 (nI k) ll rr sh pd lg nd a1 a2 a3 a4 a5 a6 a7 a8 a9 a10 a11 a12 n s (nI i)) (cq_preS a) 8 0
    (fun n i x hi hw => pk_le 8 i (fun z => absurd z (by omega)) (fun _ => br_c
      (fun c => nm_e (nm_r (nI_1 i) (by rw [cq_preS, if_pos c] at hw; exact hw)))
      (fun c => nm_r (nI_1 i) (by rw [cq_preS, if_neg c] at hw; exact hw))))
    (fun n => pk_le 8 8 (fun _ => ?_) (fun z => absurd z (by omega)))
  rw [cq_fF a ha]
  refine cq_w_push hk (fun s h1 h2 => ?_)
  have e1 : nI (k + 1) - 1 = nI k := nI_pred k
  refine ⟨by rw [e1]; exact cq_in3 (by omega) (by omega), nm_r (e' := upd s (k * 3 + a) 1) (by rw [e1, cq_ix3 (by omega), sb_shl0]) (H _ (fun e he => ?_) (fun j hj => ?_))⟩
  · unfold cq_dl
    by_cases z : e = a
    · rw [z, pk_us, if_pos rfl]
    · rw [pk_un (by omega), h1 e he, if_neg z]
  · rw [pk_un (by omega), h2 j hj]
theorem cq_w_gather {post : St2 → Prop} {a b : Nat} (ha : a < 3) (hb : b < 3) (h1 : ∀ e, e < 3 → a2 e = cq_dl a e) (h2 : ∀ e, e < 3 → a2 (3 + e) = cq_dl b e)
    (H : ∀ a2, (∀ e, e < 3 → a2 e = cq_d a b e) → post (hh, ll, rr, sh, pd, lg, nd, a1, a2, a3, a4, a5, a6, a7, a8, a9, a10, a11, a12)) : wpX_gather post (hh, ll, rr, sh, pd, lg, nd, a1, a2, a3, a4, a5, a6, a7, a8, a9, a10, a11, a12) 0 := by
  have e0 : (0 : Int32) * 3 = nI 0 := by decide +kernel
  have e3 : nI 0 + 3 = nI 3 := by decide +kernel
  refine pk_loop (fun n i s => wX_gather_2 post 0 hh ll rr sh pd lg nd n (nI i) a1 s a3 a4 a5 a6 a7 a8 a9 a10 a11 a12) (fun i s => (∀ e, e < i → s e = cq_d a b e) ∧ (∀ e, i ≤ e → e < 3 → s e = cq_dl a e) ∧ (∀ e, e < 3 → s (3 + e) = cq_dl b e)) 3 0 a2 (by omega)
    ⟨fun e he => absurd he (by omega), fun e _ he => h1 e he, h2⟩
    (fun n s hs => pk_le 3 3 (fun _ => H s hs.1) (fun z => absurd z (by omega)))
    (fun n i s hi hs hw => pk_le 3 i (fun z => absurd z (by omega)) (fun _ => ?_))
  rw [e0, e3, nI_add, nI_add, nI_clamp (by omega), nI_clamp (by omega), Nat.zero_add]
  refine ⟨vp_in_nI (by omega) (by omega), vp_in_nI (by omega) (by omega), vp_in_nI (by omega) (by omega), nm_r (e' := upd s i (cq_d a b i)) (by rw [hs.2.1 i (by omega) hi, hs.2.2 i hi, cq_fd a ha b hb i hi]) (nm_r (nI_1 i) (hw _ ⟨fun e he => ?_, fun e h3 he => ?_, fun e he => ?_⟩))⟩
  · by_cases z : e = i
    · rw [z, pk_us]
    · rw [pk_un z]
      exact hs.1 e (by omega)
  · rw [pk_un (by omega)]
    exact hs.2.1 e (by omega) he
  · rw [pk_un (by omega)]
    exact hs.2.2 e he
theorem cq_w_ext {post : Int32 → St2 → Prop} {a b : Nat} (ha : a < 3) (hb : b < 3) (h1 : ∀ e, e < 3 → a2 e = cq_dl a e) (h2 : ∀ e, e < 3 → a2 (3 + e) = cq_dl b e)
    (H : ∀ a2, (∀ e, e < 3 → a2 e = cq_d a b e) → post (nI 1) (nI 1, ll, rr, sh, pd, lg, nd, upd a1 0 (a1 0 &&& a1 1), a2, a3, a4, a5, a6, a7, a8, a9, a10, a11, a12)) : wpX_ext post (nI 2, ll, rr, sh, pd, lg, nd, a1, a2, a3, a4, a5, a6, a7, a8, a9, a10, a11, a12) := by
  refine pk_le 2 2 (fun _ => nm_r (e' := 0) (by decide) ⟨pk_in 0 6 (by omega), pk_in 1 6 (by omega) (by decide), pk_in 0 6 (by omega), nm_r (e' := upd a1 0 (a1 0 &&& a1 1)) (by rw [show ((0 : Int32) + 1).toNatClampNeg = 1 by decide +kernel, cq_c0]) ?_⟩) (fun z => absurd z (by omega))
  exact cq_w_gather ha hb h1 h2 (fun s hs => nm_r (nI_pred 1) (H s hs))
theorem cq_w_hid {post : Int32 → St2 → Prop} {a b : Nat} (ha : a < 3) (hb : b < 3) (h1 : ∀ e, e < 3 → a2 e = cq_dl a e) (h2 : ∀ e, e < 3 → a2 (3 + e) = cq_dl b e)
    (H : ∀ a2, (∀ e, e < 3 → a2 e = cq_d a b e) → post (nI 1) (nI 1, ll, rr, sh, pd, lg, nd, upd a1 0 (a1 0 ||| a1 1), a2, a3, a4, a5, a6, a7, a8, a9, a10, a11, a12)) : wpX_hid post (nI 2, ll, rr, sh, pd, lg, nd, a1, a2, a3, a4, a5, a6, a7, a8, a9, a10, a11, a12) := by
  refine pk_le 2 2 (fun _ => nm_r (e' := 0) (by decide) ⟨pk_in 0 6 (by omega), pk_in 1 6 (by omega) (by decide), pk_in 0 6 (by omega), nm_r (e' := upd a1 0 (a1 0 ||| a1 1)) (by rw [show ((0 : Int32) + 1).toNatClampNeg = 1 by decide +kernel, cq_c0]) ?_⟩) (fun z => absurd z (by omega))
  exact cq_w_gather ha hb h1 h2 (fun s hs => nm_r (nI_pred 1) (H s hs))
theorem cq_w_define {post : Int32 → St2 → Prop} {k : Nat} {v : Nat → Int32} {x : Int32} (hk : k < 8) (hx : a1 0 = x) (hv : ∀ e, e < 3 → a2 e = v e)
    (H : ∀ a7, post (nI 0) (nI 0, ll, rr, sh, 0, 0, nd, a1, a2, upd a3 k x, cq_def k v a4, a5, a6, a7, a8, a9, a10, a11, a12)) : wpX_define post (nI 1, ll, rr, sh, pd, lg, nd, a1, a2, a3, a4, a5, a6, a7, a8, a9, a10, a11, a12) (nI k) := by
  refine pk_lt k 0 (fun z => absurd z (by omega)) (fun _ => pk_le k 7 (fun _ => pk_eq 1 0 (fun z => absurd z (by omega)) (fun _ => nm_r (nI_pred 0) ?_)) (fun z => absurd z (by omega)))
  refine ⟨pk_in 0 6 (by omega), pk_in k 8 hk, nm_r (e' := upd a3 k x) (by rw [nI_clamp (by omega), nI_clamp (by omega), hx]) ?_⟩
  exact cq_lp (fun n i s => wX_define_49 post (nI k) (nI 0) ll rr sh pd lg nd n (nI i) a1 a2 (upd a3 k x) s a5 a6 a7 a8 a9 a10 a11 a12) (fun e s => upd s (k * 3 + e) (v e)) 3 a4
    (fun n i s hi hw => pk_le 3 i (fun z => absurd z (by omega)) (fun _ => ⟨cq_in3 (by omega) (by omega), cq_in3 (by omega) (by omega), nm_r (e' := upd s (k * 3 + i) (v i)) (by rw [cq_ix3 (by omega), cq_ix3 (by omega), Nat.zero_mul, Nat.zero_add, hv i hi]) (nm_r (nI_1 i) hw)⟩))
    (fun n => pk_le 3 3 (fun _ => nm_e (H _)) (fun z => absurd z (by omega)))
theorem cq_w_system {post : Int32 → St2 → Prop} {p0 p1 p2 : Int32} (hc : ¬ p0 < 0 ∧ ¬ 7 < p0 ∧ ¬ p1 < 0 ∧ ¬ 7 < p1 ∧ ¬ p2 < 0 ∧ p2 ≤ 7)
    (H : ∀ a7, a7 0 = cq_S p0 p1 → post 0 (hh, p0, p1, p2, 0, 0, nd, a1, a2, a3, a4, a5, a6, a7, a8, a9, a10, a11, a12)) : wpX_system post (hh, ll, rr, sh, pd, lg, nd, a1, a2, a3, a4, a5, a6, a7, a8, a9, a10, a11, a12) p0 p1 p2 :=
  br_f hc.1 (br_f hc.2.1 (br_f hc.2.2.1 (br_f hc.2.2.2.1 (br_f hc.2.2.2.2.1 (br_t hc.2.2.2.2.2 (nm_r (e' := vp_updL a7 0 (cq_S p0 p1)) rfl (H _ pk_uLs)))))))
end
end
section
theorem cq_okA {a b : Nat} (ha : a < 3) (hb : b < 3) (k : Nat) (hk : k < 8) : cq_ok (cq_N a b) 2 0 0 ((1 : Int32) <<< (nI k &&& 31)) (cq_m1 k) (cq_mv a b) :=
  ⟨cq_s20, cq_fA a ha b hb, cq_f10 a ha b hb, cq_fk a ha b hb k hk⟩
theorem cq_okZ {a b : Nat} (ha : a < 3) (hb : b < 3) : cq_ok (cq_N a b) 2 0 0 0 0 (cq_mv a b) :=
  ⟨cq_s20, cq_fA a ha b hb, cq_f10 a ha b hb, fun e he _ => cq_fz a ha b hb e he⟩
theorem cq_okB {a b : Nat} (ha : a < 3) (hb : b < 3) (k : Nat) (hk : k < 8) : cq_ok (cq_N a b) 1 0 0 ((1 : Int32) <<< (nI k &&& 31)) (cq_m1 k) (cq_mv a b) :=
  ⟨cq_s10, cq_fB a ha b hb, cq_f10 a ha b hb, cq_fk a ha b hb k hk⟩
theorem cq_okY {a b : Nat} (ha : a < 3) (hb : b < 3) : cq_ok (cq_N a b) 1 0 0 0 0 (cq_mv a b) :=
  ⟨cq_s10, cq_fB a ha b hb, cq_f10 a ha b hb, fun e he _ => cq_fz a ha b hb e he⟩
theorem cq_okC {a b : Nat} (ha : a < 3) (hb : b < 3) : cq_ok (cq_N a b) 1 2 7 0 0 (cq_mv a b) :=
  ⟨cq_s12, cq_fC a ha b hb, cq_f17 a ha b hb, fun e he _ => cq_fz a ha b hb e he⟩
theorem cq_okD {a b : Nat} (ha : a < 3) (hb : b < 3) : cq_ok (cq_N a b) 1 0 7 0 0 (fun _ => false) :=
  ⟨cq_s10, cq_fD a ha b hb, cq_f17 a ha b hb, fun e he z => absurd z Bool.false_ne_true⟩
/-- the lesser event -/
def cq_mn (a b : Nat) : Nat := if b ≤ a then b else a
theorem cq_mn3 {a b : Nat} (ha : a < 3) (hb : b < 3) : cq_mn a b < 3 := by
  unfold cq_mn
  split <;> omega
section
variable {hh ll rr sh pd lg nd : Int32} {a1 a2 a3 a4 a5 a6 : Nat → Int32} {a7 : Nat → Int64} {a8 : Nat → Int32} {a9 : Nat → Int64} {a10 a11 a12 : Nat → Int32}
variable {a b : Nat} {post : Int32 → St0 → Prop} {mc ms kc ks : Nat}
theorem cq_l431 (ha : a < 3) (hb : b < 3) (hp : post 1 ()) : wL_lawOf_431 post mc ms 1 kc ks hh ll rr sh pd lg nd a1 a2 (cq_R a b) (cq_N a b) a5 a6 a7 a8 a9 a10 a11 a12 := by
  unfold wL_lawOf_431
  refine cq_w_system (by decide) (fun a7 h7 => br_f (show ¬ (1 : Int32) = 0 by decide) (cq_w_offers ?_))
  rw [h7]
  refine br_t (cq_g1 a ha b hb) (cq_w_deadlock (cq_okD ha hb) (fun z => absurd rfl z) (fun pd nd a5 a8 a9 a10 a11 a12 hP => ?_))
  refine br_t (cq_g2 a ha b hb) (cq_w_traces (cq_okD ha hb) (fun nd a8 a9 a10 a11 a12 => ?_))
  exact br_t (show nI (cq_pic (fun _ => false) 3).2 = 0 by decide) hp
theorem cq_l384 (ha : a < 3) (hb : b < 3) (hp : post 1 ()) : wL_lawOf_384 post mc ms (nI a) (nI b) (nI (cq_mn a b)) 1 kc ks hh ll rr sh pd lg nd a1 a2 (cq_R a b) (cq_N a b) a5 a6 a7 a8 a9 a10 a11 a12 := by
  unfold wL_lawOf_384
  refine cq_w_system (by decide) (fun a7 h7 => br_f (show ¬ (1 : Int32) = 0 by decide) (cq_w_offers ?_))
  rw [h7]
  refine br_t (cq_k1 a ha b hb) (cq_w_deadlock (cq_okC ha hb) (fun z => absurd rfl z) (fun pd nd a5 a8 a9 a10 a11 a12 hP => ?_))
  exact br_t (cq_k2 a ha b hb) (cq_l431 ha hb hp)
theorem cq_l323 (ha : a < 3) (hb : b < 3) (hp : post 1 ()) : wL_lawOf_323 post mc ms (nI a) (nI b) (nI (cq_mn a b)) 1 kc ks hh ll rr sh pd lg nd a1 a2 (cq_R a b) (cq_N a b) a5 a6 a7 a8 a9 a10 a11 a12 := by
  unfold wL_lawOf_323
  refine cq_w_system (by decide) (fun a7 h7 => br_f (show ¬ (1 : Int32) = 0 by decide) ?_)
  refine cq_w_gap (k := 2) (kind := 1) (by omega) (by omega) (cq_okB ha hb 2 (by omega)) (cq_p0 a ha b hb) (fun z => absurd rfl z) (fun pd nd a5 a8 a9 a10 a11 a12 hP => ?_)
  refine br_t (cq_b1 a ha b hb) (cq_w_gap (k := 1) (kind := 1) (by omega) (by omega) (cq_okB ha hb 1 (by omega)) (cq_p0 a ha b hb) hP (fun pd nd a5 a8 a9 a10 a11 a12 hP => ?_))
  refine br_t (cq_b2 a ha b hb) (cq_w_unsure (cq_okY ha hb) (cq_p0 a ha b hb) hP (fun pd nd a5 a8 a9 a10 a11 a12 hP => ?_))
  refine br_t (cq_b3 a ha b hb) (cq_w_gref (k := 2) (by omega) (cq_okB ha hb 2 (by omega)) (cq_p0 a ha b hb) hP (fun pd nd a5 a8 a9 a10 a11 a12 hP => ?_))
  exact br_t (cq_b4 a ha b hb) (cq_l384 ha hb hp)
theorem cq_l300 {z0 z1 : Int32} (ha : a < 3) (hb : b < 3) (hp : post 1 ()) (h7 : a7 0 = cq_S 2 0) (hP : ¬ pd = 0 → cq_Tk (cq_R a b) 0 64 a5) (hz : z1 = z0) :
    wL_lawOf_300 post mc ms (nI a) (nI b) (nI (cq_mn a b)) z0 z1 kc ks hh 2 0 0 pd 0 nd a1 a2 (cq_R a b) (cq_N a b) a5 a6 a7 a8 a9 a10 a11 a12 := by
  unfold wL_lawOf_300
  refine br_t hz (cq_w_refuses (cq_r2 a ha b hb).1 (cq_r2 a ha b hb).2 hP (fun pd a5 ht => ?_))
  rw [h7]
  exact br_t (cq_ac a ha b hb) (cq_l323 ha hb hp)
theorem cq_l279 {z0 z1 sm : Int32} (ha : a < 3) (hb : b < 3) (hp : post 1 ()) (s0 : sm = 0 → ¬ a = b) (s1 : ¬ sm = 0 → a = b) (h7 : a7 0 = cq_S 2 0) (hP : ¬ pd = 0 → cq_Tk (cq_R a b) 0 64 a5) (hz : z1 = z0) :
    wL_lawOf_279 post mc ms (nI a) (nI b) sm (nI (cq_mn a b)) z0 z1 kc ks hh 2 0 0 pd 0 nd a1 a2 (cq_R a b) (cq_N a b) a5 a6 a7 a8 a9 a10 a11 a12 := by
  unfold wL_lawOf_279
  have e := cq_ab a ha b hb
  refine br_t hz (cq_w_refuses (cq_r1 _ (cq_mn3 ha hb)).1 (cq_r1 _ (cq_mn3 ha hb)).2 hP (fun pd a5 ht => ?_))
  rw [h7]
  refine br_c (fun c => ?_) (fun c => ?_)
  · rw [if_neg (s0 c)] at e
    exact cq_l300 ha hb hp h7 (fun _ => ht) e
  · rw [if_pos (s1 c)] at e
    exact cq_l300 ha hb hp h7 (fun _ => ht) e
theorem cq_l246 {z0 z1 sm : Int32} (ha : a < 3) (hb : b < 3) (hp : post 1 ()) (s0 : sm = 0 → ¬ a = b) (s1 : ¬ sm = 0 → a = b) (h7 : a7 0 = cq_S 2 0) (hP : ¬ pd = 0 → cq_Tk (cq_R a b) 0 64 a5) (hz : z1 = z0) :
    wL_lawOf_246 post mc ms (nI a) (nI b) sm (nI (cq_mn a b)) z0 z1 kc ks hh 2 0 0 pd 0 nd a1 a2 (cq_R a b) (cq_N a b) a5 a6 a7 a8 a9 a10 a11 a12 := by
  unfold wL_lawOf_246
  have e := cq_pc a ha b hb
  refine br_t hz (cq_w_offers ?_)
  rw [h7]
  refine br_t (cq_a9 a ha b hb) (cq_w_traces (cq_okZ ha hb) (fun nd a8 a9 a10 a11 a12 => ?_))
  refine br_c (fun c => ?_) (fun c => ?_)
  · rw [if_neg (s0 c)] at e
    exact cq_l279 ha hb hp s0 s1 h7 hP (by rw [e] <;> rfl)
  · rw [if_pos (s1 c)] at e
    exact cq_l279 ha hb hp s0 s1 h7 hP (by rw [e] <;> rfl)
theorem cq_l225 {z0 z1 sm : Int32} (ha : a < 3) (hb : b < 3) (hp : post 1 ()) (s0 : sm = 0 → ¬ a = b) (s1 : ¬ sm = 0 → a = b) (h7 : a7 0 = cq_S 2 0) (hP : ¬ pd = 0 → cq_Tk (cq_R a b) 0 64 a5) (hz : z1 = z0) :
    wL_lawOf_225 post mc ms (nI a) (nI b) sm (nI (cq_mn a b)) z0 z1 kc ks hh 2 0 0 pd 0 nd a1 a2 (cq_R a b) (cq_N a b) a5 a6 a7 a8 a9 a10 a11 a12 := by
  unfold wL_lawOf_225
  have e := cq_a8 a ha b hb
  refine br_t hz (cq_w_unsure (cq_okZ ha hb) (cq_p0 a ha b hb) hP (fun pd nd a5 a8 a9 a10 a11 a12 hP => ?_))
  refine br_c (fun c => ?_) (fun c => ?_)
  · rw [if_neg (s0 c)] at e
    exact cq_l246 ha hb hp s0 s1 h7 hP e
  · rw [if_pos (s1 c)] at e
    exact cq_l246 ha hb hp s0 s1 h7 hP e
theorem cq_l174 {z0 z1 sm : Int32} (ha : a < 3) (hb : b < 3) (hp : post 1 ()) (s0 : sm = 0 → ¬ a = b) (s1 : ¬ sm = 0 → a = b) (h7 : a7 0 = cq_S 2 0) (hP : ¬ pd = 0 → cq_Tk (cq_R a b) 0 64 a5) (hz : z1 = z0) :
    wL_lawOf_174 post mc ms (nI a) (nI b) sm (nI (cq_mn a b)) z0 z1 kc ks hh 2 0 0 pd 0 nd a1 a2 (cq_R a b) (cq_N a b) a5 a6 a7 a8 a9 a10 a11 a12 := by
  unfold wL_lawOf_174
  have e := cq_a7 a ha b hb
  refine br_t hz (cq_w_gap (k := 2) (kind := 1) (by omega) (by omega) (cq_okA ha hb 2 (by omega)) (cq_p0 a ha b hb) hP (fun pd nd a5 a8 a9 a10 a11 a12 hP => ?_))
  refine br_t (cq_a4 a ha b hb) (cq_w_gap (k := 0) (kind := 0) (by omega) (by omega) (cq_okA ha hb 0 (by omega)) (cq_p0 a ha b hb) hP (fun pd nd a5 a8 a9 a10 a11 a12 hP => ?_))
  refine br_t (cq_a5 a ha b hb) (cq_w_refined (m := cq_m1) (kind := 0) (by omega) (cq_okA ha hb) (cq_p0 a ha b hb) hP (fun pd nd a5 a8 a9 a10 a11 a12 hP => ?_))
  refine br_t (cq_a6 a ha b hb) (cq_w_refined (m := cq_m1) (kind := 1) (by omega) (cq_okA ha hb) (cq_p0 a ha b hb) hP (fun pd nd a5 a8 a9 a10 a11 a12 hP => ?_))
  refine br_c (fun c => ?_) (fun c => ?_)
  · rw [if_neg (s0 c)] at e
    exact cq_l225 ha hb hp s0 s1 h7 hP e
  · rw [if_pos (s1 c)] at e
    exact cq_l225 ha hb hp s0 s1 h7 hP e
theorem cq_l152 {z0 z1 sm : Int32} (ha : a < 3) (hb : b < 3) (hp : post 1 ()) (s0 : sm = 0 → ¬ a = b) (s1 : ¬ sm = 0 → a = b) (h7 : a7 0 = cq_S 2 0) (hP : ¬ pd = 0 → cq_Tk (cq_R a b) 0 64 a5) (hz : z1 = z0) :
    wL_lawOf_152 post mc ms (nI a) (nI b) sm (nI (cq_mn a b)) z0 z1 kc ks hh 2 0 0 pd 0 nd a1 a2 (cq_R a b) (cq_N a b) a5 a6 a7 a8 a9 a10 a11 a12 := by
  unfold wL_lawOf_152
  have e := cq_a3 a ha b hb
  refine br_t hz (cq_w_gref (k := 1) (by omega) (cq_okA ha hb 1 (by omega)) (cq_p0 a ha b hb) hP (fun pd nd a5 a8 a9 a10 a11 a12 hP => ?_))
  refine br_c (fun c => ?_) (fun c => ?_)
  · rw [if_neg (s0 c)] at e
    exact cq_l174 ha hb hp s0 s1 h7 hP e
  · rw [if_pos (s1 c)] at e
    exact cq_l174 ha hb hp s0 s1 h7 hP e
theorem cq_l107 {sm : Int32} (ha : a < 3) (hb : b < 3) (hp : post 1 ()) (s0 : sm = 0 → ¬ a = b) (s1 : ¬ sm = 0 → a = b) (h7 : a7 0 = cq_S 2 0) (hP : ¬ pd = 0 → cq_Tk (cq_R a b) 0 64 a5) :
    wL_lawOf_107 post mc ms (nI a) (nI b) (nI 0) (nI 0) 0 sm (nI (cq_mn a b)) kc ks hh 2 0 0 pd 0 nd a1 a2 (cq_R a b) (cq_N a b) a5 a6 a7 a8 a9 a10 a11 a12 := by
  unfold wL_lawOf_107
  have e := cq_a2 a ha b hb
  refine br_t (show nI 0 = 0 from rfl) (br_t (show nI 0 = 0 from rfl) (br_t (show (0 : Int32) = 0 from rfl) ?_))
  refine cq_w_gap (k := 1) (kind := 0) (by omega) (by omega) (cq_okA ha hb 1 (by omega)) (cq_p0 a ha b hb) hP (fun pd nd a5 a8 a9 a10 a11 a12 hP => ?_)
  refine br_t (cq_a1 a ha b hb) (cq_w_gap (k := 1) (kind := 1) (by omega) (by omega) (cq_okA ha hb 1 (by omega)) (cq_p0 a ha b hb) hP (fun pd nd a5 a8 a9 a10 a11 a12 hP => ?_))
  refine br_c (fun c => ?_) (fun c => ?_)
  · rw [if_neg (s0 c)] at e
    exact cq_l152 ha hb hp s0 s1 h7 hP e
  · rw [if_pos (s1 c)] at e
    exact cq_l152 ha hb hp s0 s1 h7 hP e
theorem cq_l93 {sm : Int32} (ha : a < 3) (hb : b < 3) (hp : post 1 ()) (s0 : sm = 0 → ¬ a = b) (s1 : ¬ sm = 0 → a = b) (h7 : a7 0 = cq_S 2 0) (hP : ¬ pd = 0 → cq_Tk (cq_R a b) 0 64 a5) :
    wL_lawOf_93 post mc ms (nI a) (nI b) (nI 0) (nI 0) 0 sm kc ks hh 2 0 0 pd 0 nd a1 a2 (cq_R a b) (cq_N a b) a5 a6 a7 a8 a9 a10 a11 a12 := by
  unfold wL_lawOf_93
  have t : wL_lawOf_107 post mc ms (nI a) (nI b) (nI 0) (nI 0) 0 sm (nI (cq_mn a b)) kc ks hh 2 0 0 pd 0 nd a1 a2 (cq_R a b) (cq_N a b) a5 a6 a7 a8 a9 a10 a11 a12 := cq_l107 ha hb hp s0 s1 h7 hP
  refine pk_le b a (fun z => ?_) (fun z => ?_)
  · rw [cq_mn, if_pos z] at t
    exact t
  · rw [cq_mn, if_neg (by omega)] at t
    exact t
end
theorem cq_lawOf {post : Int32 → St0 → Prop} {x y : Int32} (hp : post 1 ()) : wpL_lawOf post 13 667 () x y := by
  unfold wpL_lawOf
  refine ⟨by omega, by omega, 12, 648, by omega, by omega, ?_⟩
  refine cq_w_init (by omega) (by omega) ?_
  refine cq_w_name (fun a ha => ?_)
  refine cq_w_name (fun b hb => ?_)
  refine cq_w_pre (k := 0) (by omega) ha (fun s1 h1 _ => ?_)
  refine cq_w_pre (k := 1) (by omega) hb (fun s2 h2 h2' => ?_)
  refine cq_w_ext ha hb (fun e he => ?_) (fun e he => h2 e he) (fun s3 h3 => ?_)
  · have t := h1 e he
    rw [Nat.zero_mul, Nat.zero_add] at t
    rw [h2' e (by omega), t]
  refine cq_w_define (k := 1) (x := cq_F a &&& cq_F b) (v := cq_d a b) (by omega) ?_ h3 (fun a7 => ?_)
  · rw [pk_us, pk_un (by decide), pk_us, pk_us]
  refine cq_w_pre (k := 0) (by omega) ha (fun s4 h4 _ => ?_)
  refine cq_w_pre (k := 1) (by omega) hb (fun s5 h5 h5' => ?_)
  refine cq_w_hid ha hb (fun e he => ?_) (fun e he => h5 e he) (fun s6 h6 => ?_)
  · have t := h4 e he
    rw [Nat.zero_mul, Nat.zero_add] at t
    rw [h5' e (by omega), t]
  refine cq_w_define (k := 2) (x := cq_F a ||| cq_F b) (v := cq_d a b) (by omega) ?_ h6 (fun a7 => ?_)
  · rw [pk_us, pk_un (by decide), pk_us, pk_us]
  refine cq_w_system (by decide) (fun a7 h7 => ?_)
  refine pk_eq a b (fun z => ?_) (fun z => ?_)
  · exact cq_l93 ha hb hp (fun q => absurd q (by decide)) (fun _ => z) h7 (fun q => absurd rfl q)
  · exact cq_l93 ha hb hp (fun _ => z) (fun q => absurd rfl q) h7 (fun q => absurd rfl q)
theorem cq_cell {post : Int32 → Prop} {xs : Nat → Int32} {L i : Nat} (hL : L ≤ 2) (hi : i < 2) (hp : ∀ v, post v) : wpL_cellAt post L xs () (nI i) :=
  pk_le L i (fun _ => hp 0) (fun z => ⟨pk_in i L z, hp _⟩)
theorem i_vc (xs : Nat → Int32) (L : Nat) (hL : L ≤ 2) : wpL_law (fun r => r = 1) L xs := by
  unfold wpL_law
  refine cq_cell (i := 0) hL (by omega) (fun x => ?_)
  refine cq_cell (i := 1) hL (by omega) (fun y => ?_)
  exact ⟨13, 667, by omega, by omega, cq_lawOf rfl⟩
end
