section
/-! rows pasted from kit/rows (starting text) -/
theorem pk_us {f : Nat → Int32} {k : Nat} {x : Int32} : upd f k x k = x := if_pos rfl
theorem pk_un {f : Nat → Int32} {k j : Nat} {x : Int32} (h : j ≠ k) : upd f k x j = f j := if_neg h
theorem pk_sub {a b : Nat} (h : b ≤ a) : nI a - nI b = nI (a - b) := by
  obtain ⟨c, rfl⟩ : ∃ c, a = c + b := ⟨a - b, by omega⟩
  rw [← nI_add, Int32.add_sub_cancel, Nat.add_sub_cancel]
theorem pk_m1 (n : Nat) : nI (n + 1) + (-1) = nI n := by
  rw [← nI_1, Int32.add_assoc, show (1 : Int32) + (-1) = 0 from rfl, Int32.add_zero]
theorem pk_mul (a b : Nat) : nI a * nI b = nI (a * b) := (Int32.ofNat_mul a b).symm
theorem pk_ix (x : Int32) {n : Nat} (hn : n < 2 ^ 31) : x < 0 ∨ nI n ≤ x ∨ ∃ j : Nat, j < n ∧ x = nI j := by
  by_cases h : x < 0
  · exact Or.inl h
  · obtain ⟨j, hj, rfl⟩ := nI_of h
    by_cases h2 : j < n
    · exact Or.inr (Or.inr ⟨j, h2, rfl⟩)
    · exact Or.inr (Or.inl (nI_le (by omega) hj))
theorem pk_le {x y : Int32} {A B : Prop} (a b : Nat) (f : a ≤ b → A) (g : b < a → B) (hx : x = nI a := by rfl) (hy : y = nI b := by rfl) (ha : a < 2 ^ 31 := by omega) (hb : b < 2 ^ 31 := by omega) : (x ≤ y → A) ∧ (¬ x ≤ y → B) := by
  subst hx hy
  rw [nI_leI ha hb]
  exact ⟨f, fun z => g (by omega)⟩
theorem pk_lt {x y : Int32} {A B : Prop} (a b : Nat) (f : a < b → A) (g : b ≤ a → B) (hx : x = nI a := by rfl) (hy : y = nI b := by rfl) (ha : a < 2 ^ 31 := by omega) (hb : b < 2 ^ 31 := by omega) : (x < y → A) ∧ (¬ x < y → B) := by
  subst hx hy
  rw [nI_ltI ha hb]
  exact ⟨f, fun z => g (by omega)⟩
theorem pk_eq {x y : Int32} {A B : Prop} (a b : Nat) (f : a = b → A) (g : a ≠ b → B) (hx : x = nI a := by rfl) (hy : y = nI b := by rfl) (ha : a < 2 ^ 31 := by omega) (hb : b < 2 ^ 31 := by omega) : (x = y → A) ∧ (¬ x = y → B) := by
  subst hx hy
  rw [nI_eq ha hb]
  exact ⟨f, g⟩
theorem pk_in {x : Int32} (n N : Nat) (h : n < N) (hx : x = nI n := by rfl) (hN : N < 2 ^ 31 := by omega) : vp_in x N := by
  subst hx
  exact vp_in_nI h hN
theorem pk_cl {x : Int32} (n : Nat) (hx : x = nI n := by rfl) (h : n < 2 ^ 31 := by omega) : x.toNatClampNeg = n := by
  subst hx
  exact nI_clamp h
theorem pk_least (P : Nat → Prop) (h : ∃ k, P k) : ∃ k, P k ∧ ∀ j, j < k → ¬ P j := by
  obtain ⟨k, hk⟩ := h
  induction k using Nat.strongRecOn with
  | ind k ih =>
    by_cases e : ∃ j, j < k ∧ P j
    · obtain ⟨j, hj, pj⟩ := e
      exact ih j hj pj
    · exact ⟨k, hk, fun j hj pj => e ⟨j, hj, pj⟩⟩
/-! own basics -/
theorem bz_n1 {n : Nat} (h : n < 2 ^ 31) : ¬ nI n = -1 := by
  intro e
  have h1 := nI_pos (n := n) h
  rw [e] at h1
  exact h1 (by decide)
theorem bz_m1n {n : Nat} (h : n < 2 ^ 31) : ¬ -1 = nI n := fun e => bz_n1 h e.symm
theorem bz_b0 : vp_nar .boolean 0 = 0 := by decide
theorem bz_b1 : vp_nar .boolean 1 = 1 := by decide
theorem bz_inj {a b : Nat} (h : nI a = nI b) (ha : a < 2 ^ 31) (hb : b < 2 ^ 31) : a = b := (nI_eq ha hb).mp h
theorem bz_sub1 {n : Nat} (h : 0 < n) : nI n - 1 = nI (n - 1) := by
  obtain ⟨m, rfl⟩ : ∃ m, n = m + 1 := ⟨n - 1, by omega⟩
  exact nI_pred m
theorem bz_dec {n : Nat} (h : 0 < n) : nI n + (-1) = nI (n - 1) := by
  obtain ⟨m, rfl⟩ : ∃ m, n = m + 1 := ⟨n - 1, by omega⟩
  exact pk_m1 m
theorem bz_32 (v : Nat) : (32 : Int32) + nI v = nI (32 + v) := nI_add 32 v
theorem bz_18 (v : Nat) : (18 : Int32) + nI v = nI (18 + v) := nI_add 18 v
theorem bz_5 (v : Nat) : (5 : Int32) + nI v = nI (5 + v) := nI_add 5 v
theorem bz_6 (b v : Nat) : nI b * 6 + nI v = nI (b * 6 + v) := by
  rw [show (6 : Int32) = nI 6 from rfl, pk_mul, nI_add]
theorem bz_2 (b : Nat) : nI b * 2 = nI (b * 2) := by
  rw [show (2 : Int32) = nI 2 from rfl, pk_mul]
theorem bz_lt0 {n : Nat} (h : n < 2 ^ 31) : ¬ nI n < 0 := nI_pos h
theorem bz_eq0 {n : Nat} (h : n < 2 ^ 31) : nI n = 0 ↔ n = 0 := by
  rw [← nI_0, nI_eq h (by omega)]
theorem bz_le0 {n : Nat} (h : n < 2 ^ 31) : nI n ≤ 0 ↔ n = 0 := by
  rw [← nI_0, nI_leI h (by omega)]; omega
theorem bz_nm1lt : (-1 : Int32) < 0 := by decide
theorem bz_ex {x : Int32} {n : Nat} (h0 : ¬ x < 0) (h : ¬ nI n ≤ x) (hn : n < 2 ^ 31) : ∃ j : Nat, j < n ∧ x = nI j := by
  rcases pk_ix x hn with h1 | h1 | h1
  · exact absurd h1 h0
  · exact absurd h1 h
  · exact h1
theorem bz_ex2 {x : Int32} {n : Nat} (h0 : ¬ x < 0) (h : x < nI n) (hn : n < 2 ^ 31) : ∃ j : Nat, j < n ∧ x = nI j :=
  bz_ex h0 (Int32.not_le.mpr h) hn
/-- first index of a property, or -1 -/
def zb_fst (P : Nat → Prop) (N : Nat) (r : Int32) : Prop := (r = -1 ∧ ∀ i, i < N → ¬ P i) ∨ (∃ i, i < N ∧ r = nI i ∧ P i ∧ ∀ j, j < i → ¬ P j)
def zb_IN (x : Int32) (N : Nat) : Prop := ∃ i, i < N ∧ x = nI i
theorem zb_INof {i N : Nat} (h : i < N) : zb_IN (nI i) N := ⟨i, h, rfl⟩
theorem zb_INin {x : Int32} {N : Nat} (h : zb_IN x N) (hN : N < 2 ^ 31) : vp_in x N := by
  obtain ⟨i, hi, rfl⟩ := h
  exact vp_in_nI hi hN
end
section
/-! the program's pure picture: arity, operands, the unit, grounding, ranks, values -/
def zp_fu (op : Int32) : Nat := if 2 < op then (if op = 15 then 3 else 2) else 1
def zp_ar (op : Int32) : Nat := if op = 0 then 0 else zp_fu op
theorem zp_fu1 (op : Int32) : 1 ≤ zp_fu op ∧ zp_fu op ≤ 3 := by
  unfold zp_fu
  split
  · split <;> omega
  · omega
theorem zp_ar3 (op : Int32) : zp_ar op ≤ 3 := by
  unfold zp_ar
  split
  · omega
  · exact (zp_fu1 op).2
def zp_opI (ops fA fB fC : Nat → Int32) (n k : Nat) : Int32 :=
  if ops n = 1 then 32 + fA n else if k = 0 then fA n else if k = 1 then fB n else fC n
def zp_op (ops fA fB fC : Nat → Int32) (n k : Nat) : Nat := (zp_opI ops fA fB fC n k).toNatClampNeg
/-- every operand that is read is a node of the same block, or the entry value of a variable -/
def zp_OK (VC nc : Nat) (ops fA fB fC ow : Nat → Int32) : Prop :=
  ∀ n, n < nc → ∀ k, k < zp_ar (ops n) → zp_opI ops fA fB fC n k = nI (zp_op ops fA fB fC n k) ∧ zp_op ops fA fB fC n k < 38 ∧ (ops n = 1 → 32 ≤ zp_op ops fA fB fC n k ∧ zp_op ops fA fB fC n k < 32 + VC) ∧ (ops n ≠ 1 → zp_op ops fA fB fC n k < nc ∧ ow (zp_op ops fA fB fC n k) = ow n)
def zp_alu (op x y z : Int32) : Int32 :=
  if op = 2 then -x else if op = 3 then x + y else if op = 4 then x - y else if op = 5 then x * y
  else if op = 6 then (if y = 0 then 0 else x / y) else if op = 7 then (if y = 0 then 0 else x - x / y * y)
  else if op = 8 then x &&& y else if op = 9 then x ||| y else if op = 10 then x ^^^ y
  else if op = 11 then x <<< ((y &&& 31) &&& 31) else if op = 12 then x >>> ((y &&& 31) &&& 31)
  else if op = 13 then (if x = y then 1 else 0) else if op = 14 then (if y ≤ x then 0 else 1)
  else if x = 0 then z else y
def zp_val (ops fA fB fC : Nat → Int32) (n : Nat) (V : Nat → Int32) : Int32 :=
  if ops n = 0 then fA n else if ops n = 1 then V (zp_op ops fA fB fC n 0)
  else zp_alu (ops n) (V (zp_op ops fA fB fC n 0)) (V (zp_op ops fA fB fC n 1)) (V (zp_op ops fA fB fC n 2))
theorem zp_c16 {j : Nat} (h : j < 16) : j = 0 ∨ j = 1 ∨ j = 2 ∨ j = 3 ∨ j = 4 ∨ j = 5 ∨ j = 6 ∨ j = 7 ∨ j = 8 ∨ j = 9 ∨ j = 10 ∨ j = 11 ∨ j = 12 ∨ j = 13 ∨ j = 14 ∨ j = 15 := by omega
theorem zp_a3 : ∀ i, i < 16 → 3 ≤ i → 1 < zp_ar (nI i) := by decide +kernel
theorem zp_aluc {op x y z x' y' z' : Int32} (ho : ∃ j, j < 16 ∧ op = nI j) (h0 : op ≠ 0) (h1 : op ≠ 1) (hx : x = x') (hy : 1 < zp_ar op → y = y') (hz : 2 < zp_ar op → z = z') : zp_alu op x y z = zp_alu op x' y' z' := by
  obtain ⟨j, hj, rfl⟩ := ho
  subst hx
  by_cases e0 : j = 0
  · subst e0; exact absurd rfl h0
  by_cases e1 : j = 1
  · subst e1; exact absurd rfl h1
  by_cases e2 : j = 2
  · subst e2; rfl
  rw [hy (zp_a3 j hj (by omega))]
  by_cases e15 : j = 15
  · subst e15; rw [hz (by decide)]
  rcases zp_c16 hj with rfl | rfl | rfl | rfl | rfl | rfl | rfl | rfl | rfl | rfl | rfl | rfl | rfl | rfl | rfl | rfl
  all_goals first | rfl | omega
theorem zp_valc {nc : Nat} {ops fA fB fC : Nat → Int32} (hw : ∀ n, n < nc → ∃ j, j < 16 ∧ ops n = nI j) {n : Nat} (hn : n < nc) {V V' : Nat → Int32} (h : ∀ k, k < zp_ar (ops n) → V (zp_op ops fA fB fC n k) = V' (zp_op ops fA fB fC n k)) : zp_val ops fA fB fC n V = zp_val ops fA fB fC n V' := by
  unfold zp_val
  by_cases h0 : ops n = 0
  · rw [if_pos h0, if_pos h0]
  · have ha : zp_ar (ops n) = zp_fu (ops n) := if_neg h0
    have hb := zp_fu1 (ops n)
    rw [if_neg h0, if_neg h0]
    by_cases h1 : ops n = 1
    · rw [if_pos h1, if_pos h1]
      exact h 0 (by omega)
    · rw [if_neg h1, if_neg h1]
      exact zp_aluc (hw n hn) h0 h1 (h 0 (by omega)) (fun z => h 1 z) (fun z => h 2 z)
/-! grounding -/
def zp_rdy (ops fA fB fC : Nat → Int32) (g : Nat → Bool) (n : Nat) : Bool := decide (∀ k, k < zp_ar (ops n) → ops n = 1 ∨ g (zp_op ops fA fB fC n k) = true)
def zp_gi (ops fA fB fC : Nat → Int32) (g : Nat → Bool) : Nat → Nat → Bool
  | 0 => g
  | i + 1 => fun m => if m = i then zp_rdy ops fA fB fC (zp_gi ops fA fB fC g i) i else zp_gi ops fA fB fC g i m
def zp_gp (ops fA fB fC : Nat → Int32) (nc : Nat) : Nat → Nat → Bool
  | 0 => fun _ => false
  | p + 1 => zp_gi ops fA fB fC (zp_gp ops fA fB fC nc p) nc
section ZPG
variable {ops fA fB fC : Nat → Int32}
theorem zp_rdyI {g : Nat → Bool} {n : Nat} : zp_rdy ops fA fB fC g n = true ↔ ∀ k, k < zp_ar (ops n) → ops n = 1 ∨ g (zp_op ops fA fB fC n k) = true := by
  unfold zp_rdy
  exact decide_eq_true_iff
theorem zp_rdyM {g g' : Nat → Bool} (h : ∀ m, g m = true → g' m = true) {n : Nat} (hr : zp_rdy ops fA fB fC g n = true) : zp_rdy ops fA fB fC g' n = true := by
  rw [zp_rdyI] at hr ⊢
  intro k hk
  rcases hr k hk with h1 | h1
  · exact Or.inl h1
  · exact Or.inr (h _ h1)
def zp_Mo (ops fA fB fC : Nat → Int32) (g : Nat → Bool) : Prop := ∀ m, g m = true → zp_rdy ops fA fB fC g m = true
theorem zp_giS {g : Nat → Bool} (i : Nat) (h : zp_Mo ops fA fB fC (zp_gi ops fA fB fC g i)) : (∀ m, zp_gi ops fA fB fC g i m = true → zp_gi ops fA fB fC g (i + 1) m = true) ∧ zp_Mo ops fA fB fC (zp_gi ops fA fB fC g (i + 1)) := by
  have h1 : ∀ m, zp_gi ops fA fB fC g i m = true → zp_gi ops fA fB fC g (i + 1) m = true := by
    intro m hm
    show (if m = i then _ else _) = true
    by_cases e : m = i
    · rw [if_pos e, ← e]
      rw [← e] at hm h
      exact h m hm
    · rw [if_neg e]; exact hm
  refine ⟨h1, fun m hm => ?_⟩
  have hm' : (if m = i then zp_rdy ops fA fB fC (zp_gi ops fA fB fC g i) i else zp_gi ops fA fB fC g i m) = true := hm
  by_cases e : m = i
  · rw [if_pos e, ← e] at hm'
    rw [← e] at h1 ⊢
    exact zp_rdyM h1 hm'
  · rw [if_neg e] at hm'
    exact zp_rdyM h1 (h m hm')
theorem zp_giM {g : Nat → Bool} (h : zp_Mo ops fA fB fC g) : ∀ i, zp_Mo ops fA fB fC (zp_gi ops fA fB fC g i)
  | 0 => h
  | i + 1 => (zp_giS i (zp_giM h i)).2
theorem zp_gpM (nc : Nat) : ∀ p, zp_Mo ops fA fB fC (zp_gp ops fA fB fC nc p)
  | 0 => fun _ h => nomatch h
  | p + 1 => zp_giM (zp_gpM nc p) nc
theorem zp_giHi {g : Nat → Bool} {m : Nat} : ∀ i, i ≤ m → zp_gi ops fA fB fC g i m = g m
  | 0, _ => rfl
  | i + 1, h => by
    show (if m = i then _ else _) = _
    rw [if_neg (by omega)]
    exact zp_giHi i (by omega)
theorem zp_giLo {g : Nat → Bool} {m : Nat} : ∀ i, m < i → zp_gi ops fA fB fC g i m = zp_rdy ops fA fB fC (zp_gi ops fA fB fC g m) m
  | 0, h => absurd h (by omega)
  | i + 1, h => by
    show (if m = i then _ else _) = _
    by_cases e : m = i
    · rw [if_pos e, e]
    · rw [if_neg e]
      exact zp_giLo i (by omega)
/-- ranks: the pass in which a node is grounded -/
def zp_RK (ops fA fB fC : Nat → Int32) (nc : Nat) (p : Nat → Nat) : Prop :=
  ∀ n, n < nc → p n < nc ∧ ∀ k, k < zp_ar (ops n) → ops n ≠ 1 → p (zp_op ops fA fB fC n k) < p n ∨ (p (zp_op ops fA fB fC n k) = p n ∧ zp_op ops fA fB fC n k < n)
theorem zp_rank1 {nc n : Nat} (hn : n < nc) (h : zp_gp ops fA fB fC nc nc n = true) : ∃ q, q < nc ∧ zp_gp ops fA fB fC nc (q + 1) n = true ∧ ∀ q', q' ≤ q → zp_gp ops fA fB fC nc q' n = false := by
  obtain ⟨m, rfl⟩ : ∃ m, nc = m + 1 := ⟨nc - 1, by omega⟩
  obtain ⟨q, hq, hl⟩ := pk_least (fun q => zp_gp ops fA fB fC (m + 1) (q + 1) n = true) ⟨m, h⟩
  refine ⟨q, ?_, hq, ?_⟩
  · by_cases e : q < m + 1
    · exact e
    · exact absurd h (hl m (by omega))
  · intro q' hq'
    cases q' with
    | zero => rfl
    | succ q' =>
      have := hl q' (by omega)
      simpa using this
theorem zp_rank {VC nc : Nat} {ow : Nat → Int32} (ho : zp_OK VC nc ops fA fB fC ow) (h : ∀ n, n < nc → zp_gp ops fA fB fC nc nc n = true) : ∃ p, zp_RK ops fA fB fC nc p := by
  have hq : ∀ n, ∃ q, n < nc → (q < nc ∧ zp_gp ops fA fB fC nc (q + 1) n = true ∧ ∀ q', q' ≤ q → zp_gp ops fA fB fC nc q' n = false) := by
    intro n
    by_cases hn : n < nc
    · obtain ⟨q, h1⟩ := zp_rank1 hn (h n hn)
      exact ⟨q, fun _ => h1⟩
    · exact ⟨0, fun z => absurd z hn⟩
  refine ⟨fun n => (hq n).choose, fun n hn => ?_⟩
  have hs := (hq n).choose_spec hn
  refine ⟨hs.1, fun k hk h1 => ?_⟩
  have hm : zp_op ops fA fB fC n k < nc := ((ho n hn k hk).2.2.2 h1).1
  have hms := (hq (zp_op ops fA fB fC n k)).choose_spec hm
  dsimp only
  revert hs hms
  generalize (hq n).choose = q
  generalize (hq (zp_op ops fA fB fC n k)).choose = q2
  generalize hmm : zp_op ops fA fB fC n k = m at *
  intro hs hms
  have e1 : zp_rdy ops fA fB fC (zp_gi ops fA fB fC (zp_gp ops fA fB fC nc q) n) n = true := by
    rw [← zp_giLo nc hn]; exact hs.2.1
  have e2 := (zp_rdyI.mp e1) k hk
  rw [hmm] at e2
  rcases e2 with e2 | e2
  · exact absurd e2 h1
  · by_cases hlt : m < n
    · rw [zp_giLo n hlt, ← zp_giLo nc hm] at e2
      have e3 : zp_gp ops fA fB fC nc (q + 1) m = true := e2
      by_cases hle : q2 ≤ q
      · omega
      · have := hms.2.2 (q + 1) (by omega)
        rw [this] at e3
        exact nomatch e3
    · rw [zp_giHi n (by omega)] at e2
      by_cases hle : q2 < q
      · exact Or.inl hle
      · have := hms.2.2 q (by omega)
        rw [this] at e2
        exact nomatch e2
/-! values -/
def zp_cmb (a v : Nat → Int32) : Nat → Int32 := fun i => if i < 32 then a i else v (i - 32)
def zp_vs (ops fA fB fC vars : Nat → Int32) : Nat → Nat → Int32
  | 0 => fun _ => 0
  | f + 1 => fun n => zp_val ops fA fB fC n (zp_cmb (zp_vs ops fA fB fC vars f) vars)
theorem zp_vsS {VC nc : Nat} {ow vars : Nat → Int32} (hc : nc ≤ 32) (hw : ∀ n, n < nc → ∃ j, j < 16 ∧ ops n = nI j) (ho : zp_OK VC nc ops fA fB fC ow) {p : Nat → Nat} (hp : zp_RK ops fA fB fC nc p) : ∀ r n, n < nc → p n * 32 + n = r → ∀ f, r < f → zp_vs ops fA fB fC vars f n = zp_vs ops fA fB fC vars (r + 1) n := by
  intro r
  induction r using Nat.strongRecOn with
  | ind r ih =>
    intro n hn hr f hf
    obtain ⟨f, rfl⟩ : ∃ g, f = g + 1 := ⟨f - 1, by omega⟩
    refine zp_valc hw hn (fun k hk => ?_)
    have hk2 := ho n hn k hk
    by_cases h1 : ops n = 1
    · have := hk2.2.2.1 h1
      unfold zp_cmb
      rw [if_neg (by omega), if_neg (by omega)]
    · have h3 := hk2.2.2.2 h1
      have h4 := (hp n hn).2 k hk h1
      revert h3 h4
      generalize zp_op ops fA fB fC n k = m
      intro h3 h4
      unfold zp_cmb
      rw [if_pos (by omega), if_pos (by omega)]
      have hlt : p m * 32 + m < r := by omega
      rw [ih _ hlt m h3.1 rfl f (by omega), ih _ hlt m h3.1 rfl r (by omega)]
theorem zp_fix {VC nc : Nat} {ow vars : Nat → Int32} (hc : nc ≤ 32) (hw : ∀ n, n < nc → ∃ j, j < 16 ∧ ops n = nI j) (ho : zp_OK VC nc ops fA fB fC ow) {p : Nat → Nat} (hp : zp_RK ops fA fB fC nc p) : ∃ V : Nat → Int32, ∀ n, n < nc → V n = zp_val ops fA fB fC n (zp_cmb V vars) := by
  refine ⟨fun n => zp_vs ops fA fB fC vars (p n * 32 + n + 1) n, fun n hn => ?_⟩
  show zp_val ops fA fB fC n _ = _
  refine zp_valc hw hn (fun k hk => ?_)
  have hk2 := ho n hn k hk
  by_cases h1 : ops n = 1
  · have := hk2.2.2.1 h1
    unfold zp_cmb
    rw [if_neg (by omega), if_neg (by omega)]
  · have h3 := hk2.2.2.2 h1
    have h4 := (hp n hn).2 k hk h1
    revert h3 h4
    generalize zp_op ops fA fB fC n k = m
    intro h3 h4
    unfold zp_cmb
    rw [if_pos (by omega), if_pos (by omega)]
    exact zp_vsS (VC := VC) (ow := ow) hc hw ho hp _ m h3.1 rfl _ (by omega)
end ZPG
end
section
/-! the belt machine's pure picture: (belt by distance, cells, values) -/
abbrev zm_M : Type := (Nat → Int32) × (Nat → Int32) × (Nat → Int32)
def zm_sh (r : Int32) (D : Nat → Int32) : Nat → Int32 := fun i => if i = 0 then r else D (i - 1)
def zm_res (op x y z : Int32) (m : zm_M) : Int32 :=
  if op = 0 then x else if op = 16 then m.2.1 x.toNatClampNeg else if op = 1 then m.1 x.toNatClampNeg
  else zp_alu op (m.1 x.toNatClampNeg) (m.1 y.toNatClampNeg) (m.1 z.toNatClampNeg)
def zm_stp (op x y z tag : Int32) (m : zm_M) : zm_M :=
  if op = 17 then (m.1, upd m.2.1 y.toNatClampNeg (m.1 x.toNatClampNeg), m.2.2)
  else (zm_sh (zm_res op x y z m) m.1, m.2.1, if tag = -1 then m.2.2 else upd m.2.2 tag.toNatClampNeg (zm_res op x y z m))
def zm_exe (co cx cy cz ct : Nat → Int32) (lo : Nat) : Nat → zm_M → zm_M
  | 0, m => m
  | n + 1, m => zm_stp (co (lo + n)) (cx (lo + n)) (cy (lo + n)) (cz (lo + n)) (ct (lo + n)) (zm_exe co cx cy cz ct lo n m)
def zm_okI (L : Nat) (op x y z tag : Int32) : Prop :=
  (op = 0 ∨ (op = 16 ∧ zb_IN x 44) ∨ (op = 17 ∧ zb_IN x L ∧ zb_IN y 44) ∨ ((∃ k, 1 ≤ k ∧ k < 16 ∧ op = nI k) ∧ zb_IN x L ∧ zb_IN y L ∧ zb_IN z L)) ∧ (tag = -1 ∨ zb_IN tag 32)
theorem zm_exeC {co cx cy cz ct co' cx' cy' cz' ct' : Nat → Int32} {lo : Nat} {m : zm_M} : ∀ n, (∀ i, i < n → co' (lo + i) = co (lo + i) ∧ cx' (lo + i) = cx (lo + i) ∧ cy' (lo + i) = cy (lo + i) ∧ cz' (lo + i) = cz (lo + i) ∧ ct' (lo + i) = ct (lo + i)) → zm_exe co' cx' cy' cz' ct' lo n m = zm_exe co cx cy cz ct lo n m
  | 0, _ => rfl
  | n + 1, h => by
    obtain ⟨h1, h2, h3, h4, h5⟩ := h n (by omega)
    show zm_stp _ _ _ _ _ _ = zm_stp _ _ _ _ _ _
    rw [h1, h2, h3, h4, h5, zm_exeC n (fun i hi => h i (by omega))]
def zm_Eq (ops fA fB fC ow : Nat → Int32) (nc b : Nat) (V : Nat → Int32) : Prop := ∀ n, n < nc → ow n = nI b → V n = zp_val ops fA fB fC n V
def zm_En (OB VC : Nat) (V : Nat → Int32) (m : zm_M) : Prop := (∀ v, v < OB → m.1 v = V (32 + v)) ∧ (∀ v, OB ≤ v → v < VC → m.2.1 v = V (32 + v))
def zm_HD (ou : Nat → Int32) (b OB hv id : Nat) : Prop := 32 + OB ≤ id ∧ id < 32 + hv ∧ ou (b * 6 + (id - 32)) ≠ -1
def zm_srI (ou : Nat → Int32) (b v : Nat) : Int32 := if ou (b * 6 + v) = -1 then 32 + nI v else ou (b * 6 + v)
def zm_sr (ou : Nat → Int32) (b v : Nat) : Nat := (zm_srI ou b v).toNatClampNeg
/-- what the code so far has brought about: belt, cells, node values, homes -/
def zm_Sv (L OB b hv : Nat) (ou mo ce : Nat → Int32) (I : Nat → Bool) (V : Nat → Int32) (m0 m : zm_M) : Prop :=
  (∀ i, i < L → ∀ id, id < 38 → mo i = nI id → m.1 i = V id) ∧
  (∀ id, id < 38 → ∀ c, c < 44 → ce id = nI c → ¬ zm_HD ou b OB hv id → m.2.1 c = V id) ∧
  (∀ n, (I n = true → m.2.2 n = V n) ∧ (I n = false → m.2.2 n = m0.2.2 n)) ∧
  (∀ v, zm_HD ou b OB hv (32 + v) → m.2.1 v = V (zm_sr ou b v))
def zm_Sim (L OB VC nc b hv lo : Nat) (ops fA fB fC ow ou co cx cy cz ct : Nat → Int32) (n : Nat) (mo ce : Nat → Int32) (I : Nat → Bool) : Prop :=
  (∀ i, i < n → zm_okI L (co (lo + i)) (cx (lo + i)) (cy (lo + i)) (cz (lo + i)) (ct (lo + i))) ∧
  ∀ (V : Nat → Int32) (m0 : zm_M), zm_Eq ops fA fB fC ow nc b V → zm_En OB VC V m0 → zm_Sv L OB b hv ou mo ce I V m0 (zm_exe co cx cy cz ct lo n m0)
section ZM
variable {L OB VC nc b hv lo n : Nat} {ops fA fB fC ow ou co cx cy cz ct mo ce : Nat → Int32} {I : Nat → Bool}
theorem zm_emit {hv' k : Nat} {mo' ce' : Nat → Int32} {I' : Nat → Bool} {op x y z tag : Int32} (hs : zm_Sim L OB VC nc b hv lo ops fA fB fC ow ou co cx cy cz ct n mo ce I) (hk : k = lo + n) (hi : zm_okI L op x y z tag)
    (hst : ∀ (V : Nat → Int32) (m0 m : zm_M), zm_Eq ops fA fB fC ow nc b V → zm_Sv L OB b hv ou mo ce I V m0 m → zm_Sv L OB b hv' ou mo' ce' I' V m0 (zm_stp op x y z tag m)) :
    zm_Sim L OB VC nc b hv' lo ops fA fB fC ow ou (upd co k op) (upd cx k x) (upd cy k y) (upd cz k z) (upd ct k tag) (n + 1) mo' ce' I' := by
  subst hk
  constructor
  · intro i h
    by_cases e : i = n
    · subst e
      simp only [pk_us]
      exact hi
    · have e2 : lo + i ≠ lo + n := by omega
      rw [pk_un e2, pk_un e2, pk_un e2, pk_un e2, pk_un e2]
      exact hs.1 i (by omega)
  · intro V m0 hV hm
    show zm_Sv L OB b hv' ou mo' ce' I' V m0 (zm_stp _ _ _ _ _ _)
    rw [pk_us, pk_us, pk_us, pk_us, pk_us, zm_exeC (co := co) (cx := cx) (cy := cy) (cz := cz) (ct := ct) n (fun i h => by
      have e2 : lo + i ≠ lo + n := by omega
      exact ⟨pk_un e2, pk_un e2, pk_un e2, pk_un e2, pk_un e2⟩)]
    exact hst V m0 _ hV (hs.2 V m0 hV hm)
theorem zm_drop {op x y z tag : Int32} {id : Nat} {I' : Nat → Bool} {V : Nat → Int32} {m0 m : zm_M} (h17 : op ≠ 17) (hid : id < 38) (hr : zm_res op x y z m = V id) (h : zm_Sv L OB b hv ou mo ce I V m0 m)
    (ht : (tag = -1 ∧ I' = I) ∨ (tag = nI id ∧ I' = fun j => if j = id then true else I j)) :
    zm_Sv L OB b hv ou (zm_sh (nI id) mo) ce I' V m0 (zm_stp op x y z tag m) := by
  obtain ⟨h1, h2, h3, h4⟩ := h
  unfold zm_stp
  rw [if_neg h17, hr]
  refine ⟨?_, h2, ?_, h4⟩
  · intro i hi id' hid' e
    show zm_sh (V id) m.1 i = V id'
    unfold zm_sh at e ⊢
    by_cases e0 : i = 0
    · rw [if_pos e0] at e ⊢
      rw [bz_inj e (by omega) (by omega)]
    · rw [if_neg e0] at e ⊢
      exact h1 (i - 1) (by omega) id' hid' e
  · intro j
    rcases ht with ⟨rfl, rfl⟩ | ⟨rfl, rfl⟩
    · rw [if_pos rfl]
      exact h3 j
    · rw [if_neg (bz_n1 (by omega)), nI_clamp (by omega)]
      show ((if j = id then true else I j) = true → upd m.2.2 id (V id) j = V j) ∧ ((if j = id then true else I j) = false → upd m.2.2 id (V id) j = m0.2.2 j)
      by_cases e : j = id
      · subst e
        rw [if_pos rfl, pk_us]
        exact ⟨fun _ => rfl, fun z => absurd z (by decide)⟩
      · rw [if_neg e, pk_un e]
        exact h3 j
theorem zm_store {i id c : Nat} {V : Nat → Int32} {m0 m : zm_M} (hi : i < L) (hid : id < 38) (hm : mo i = nI id) (hL : L ≤ 12) (hc : c < 44) (h6 : 6 ≤ c) (hh : hv ≤ 6) (hf : ∀ id', id' < 38 → ce id' ≠ nI c) (h : zm_Sv L OB b hv ou mo ce I V m0 m) :
    zm_Sv L OB b hv ou mo (upd ce id (nI c)) I V m0 (zm_stp 17 (nI i) (nI c) 0 (-1) m) := by
  obtain ⟨h1, h2, h3, h4⟩ := h
  unfold zm_stp
  rw [if_pos rfl, nI_clamp (show c < 2 ^ 31 by omega), nI_clamp (show i < 2 ^ 31 by omega)]
  refine ⟨h1, ?_, h3, ?_⟩
  · intro id' hid' c' hc' e hh'
    show upd m.2.1 c (m.1 i) c' = V id'
    by_cases e1 : id' = id
    · subst e1
      rw [pk_us] at e
      have := bz_inj e (by omega) (by omega)
      subst this
      rw [pk_us]
      exact h1 i hi id' hid' hm
    · rw [pk_un e1] at e
      have : c' ≠ c := fun e2 => hf id' hid' (e2 ▸ e)
      rw [pk_un this]
      exact h2 id' hid' c' hc' e hh'
  · intro v hv'
    show upd m.2.1 c (m.1 i) v = _
    have := hv'.2.1
    rw [pk_un (show v ≠ c by omega)]
    exact h4 v hv'
theorem zm_home {i id : Nat} {V : Nat → Int32} {m0 m : zm_M} (hi : i < L) (hid : id < 38) (hm : mo i = nI id) (hL : L ≤ 12) (hs : zm_sr ou b hv = id) (hO : OB ≤ hv) (hh : hv < 6) (hu : ou (b * 6 + hv) ≠ -1) (hf : ∀ id', id' < 38 → id' ≠ 32 + hv → ce id' ≠ nI hv) (h : zm_Sv L OB b hv ou mo ce I V m0 m) :
    zm_Sv L OB b (hv + 1) ou mo ce I V m0 (zm_stp 17 (nI i) (nI hv) 0 (-1) m) := by
  obtain ⟨h1, h2, h3, h4⟩ := h
  unfold zm_stp
  rw [if_pos rfl, nI_clamp (show hv < 2 ^ 31 by omega), nI_clamp (show i < 2 ^ 31 by omega)]
  refine ⟨h1, ?_, h3, ?_⟩
  · intro id' hid' c' hc' e hh'
    show upd m.2.1 hv (m.1 i) c' = V id'
    have e1 : id' ≠ 32 + hv := by
      intro e1
      apply hh'
      subst e1
      refine ⟨by omega, by omega, ?_⟩
      rw [Nat.add_sub_cancel_left]
      exact hu
    have : c' ≠ hv := fun e2 => hf id' hid' e1 (e2 ▸ e)
    rw [pk_un this]
    exact h2 id' hid' c' hc' e (fun z => hh' ⟨z.1, by have := z.2.1; omega, z.2.2⟩)
  · intro v hv'
    show upd m.2.1 hv (m.1 i) v = _
    by_cases e : v = hv
    · subst e
      rw [pk_us, hs]
      exact h1 i hi id hid hm
    · rw [pk_un e]
      exact h4 v ⟨hv'.1, by have := hv'.2.1; omega, hv'.2.2⟩
theorem zm_hskip {V : Nat → Int32} {m0 m : zm_M} (hu : ou (b * 6 + hv) = -1) (h : zm_Sv L OB b hv ou mo ce I V m0 m) : zm_Sv L OB b (hv + 1) ou mo ce I V m0 m := by
  have hd : ∀ id, zm_HD ou b OB (hv + 1) id → zm_HD ou b OB hv id := by
    intro id ⟨z1, z2, z3⟩
    refine ⟨z1, ?_, z3⟩
    by_cases e : id = 32 + hv
    · subst e
      rw [Nat.add_sub_cancel_left] at z3
      exact absurd hu z3
    · omega
  obtain ⟨h1, h2, h3, h4⟩ := h
  exact ⟨h1, fun id hid c hc e hh => h2 id hid c hc e (fun z => hh ⟨z.1, by have := z.2.1; omega, z.2.2⟩), h3, fun v z => h4 v (hd _ z)⟩
/-- only what the belt's picture says below L, and less said of the cells, is kept -/
theorem zm_mono {mo' ce' : Nat → Int32} {V : Nat → Int32} {m0 m : zm_M} (h : zm_Sv L OB b hv ou mo ce I V m0 m) (hm : ∀ i, i < L → mo' i = mo i) (hc : ∀ id, id < 38 → ce' id = ce id ∨ ce' id = -1) : zm_Sv L OB b hv ou mo' ce' I V m0 m := by
  obtain ⟨h1, h2, h3, h4⟩ := h
  refine ⟨fun i hi id hid e => h1 i hi id hid (hm i hi ▸ e), fun id hid c hc' e hh => ?_, h3, h4⟩
  rcases hc id hid with e1 | e1
  · exact h2 id hid c hc' (e1 ▸ e) hh
  · rw [e1] at e
    exact absurd e (bz_m1n (by omega))
theorem zm_simM {mo' ce' : Nat → Int32} (h : zm_Sim L OB VC nc b hv lo ops fA fB fC ow ou co cx cy cz ct n mo ce I) (hm : ∀ i, i < L → mo' i = mo i) (hc : ∀ id, id < 38 → ce' id = ce id ∨ ce' id = -1) : zm_Sim L OB VC nc b hv lo ops fA fB fC ow ou co cx cy cz ct n mo' ce' I :=
  ⟨h.1, fun V m0 hV hE => zm_mono (h.2 V m0 hV hE) hm hc⟩
end ZM
end
section
/-! the compiler's picture of one block and how each act keeps it -/
def zc_CE (OB VC : Nat) (ce bu : Nat → Int32) : Prop :=
  (∀ id, id < 38 → ce id = -1 ∨ ∃ c, ce id = nI c ∧ ((6 ≤ c ∧ c < 44 ∧ bu c = 1) ∨ (OB ≤ c ∧ c < VC ∧ id = 32 + c))) ∧
  (∀ id id', id < 38 → id' < 38 → ce id = ce id' → ce id ≠ -1 → id = id') ∧
  (∀ c, 6 ≤ c → c < 44 → bu c = 0 ∨ (bu c = 1 ∧ ∃ id, id < 38 ∧ ce id = nI c)) ∧
  (∀ v, OB ≤ v → v < VC → ce (32 + v) = nI v)
def zc_hv (VC : Nat) (I : Nat → Bool) (id : Nat) : Prop := I id = true ∨ (32 ≤ id ∧ id < 32 + VC)
def zc_AV (L VC : Nat) (I : Nat → Bool) (un : Nat → Nat) (mo ce : Nat → Int32) : Prop :=
  ∀ id, id < 38 → zc_hv VC I id → 0 < un id → (∃ i, i < L ∧ mo i = nI id) ∨ ce id ≠ -1
def zc_SF (L VC : Nat) (I : Nat → Bool) (un : Nat → Nat) (mo ce : Nat → Int32) (x : Nat) : Prop :=
  ∀ id, id < 38 → id ≠ x → mo (L - 1) = nI id → zc_hv VC I id → 0 < un id → (∃ i, i < L - 1 ∧ mo i = nI id) ∨ ce id ≠ -1
def zc_BI (L OB VC nc b hv lo : Nat) (ops fA fB fC ow ou : Nat → Int32) (pre : Nat → Int32 × Int32 × Int32 × Int32 × Int32) (I : Nat → Bool) (un : Nat → Nat) (cl : Nat) (co cx cy cz ct us ce mo bu : Nat → Int32) : Prop :=
  zm_Sim L OB VC nc b hv lo ops fA fB fC ow ou co cx cy cz ct (cl - lo) mo ce I ∧ lo ≤ cl ∧
  (∀ i, i < lo → pre i = (co i, cx i, cy i, cz i, ct i)) ∧
  (∀ i, i < L → mo i = -1 ∨ zb_IN (mo i) 38) ∧ zc_CE OB VC ce bu ∧
  (∀ id, id < 38 → us id = nI (un id) ∧ un id ≤ 200) ∧ zc_AV L VC I un mo ce
section ZC
variable {L OB VC nc b hv lo : Nat} {ops fA fB fC ow ou : Nat → Int32} {pre : Nat → Int32 × Int32 × Int32 × Int32 × Int32} {I : Nat → Bool} {un : Nat → Nat} {cl : Nat} {co cx cy cz ct us ce mo bu : Nat → Int32}
theorem zc_free1 (h : zc_CE OB VC ce bu) (hV : VC ≤ 6) {c : Nat} (h6 : 6 ≤ c) (h44 : c < 44) (hb : bu c = 0) {id : Nat} (hid : id < 38) : ce id ≠ nI c := by
  intro e
  rcases h.1 id hid with e1 | ⟨c', e1, h2 | h2⟩
  · rw [e1] at e
    exact absurd e (bz_m1n (by omega))
  · have := bz_inj (e1.symm.trans e) (by omega) (by omega)
    subst this
    rw [hb] at h2
    exact absurd h2.2.2 (by decide)
  · have := bz_inj (e1.symm.trans e) (by omega) (by omega)
    omega
theorem zc_free (h : zc_CE OB VC ce bu) {id : Nat} (hid : id < 38) (he : ce id = -1) : ∃ c, 6 ≤ c ∧ c < 44 ∧ bu c = 0 := by
  apply Classical.byContradiction
  intro hn
  have hf : ∀ c, ∃ i, 6 ≤ c → c < 44 → (i < 38 ∧ ce i = nI c) := by
    intro c
    by_cases h6 : 6 ≤ c
    · by_cases h44 : c < 44
      · rcases h.2.2.1 c h6 h44 with h1 | ⟨_, i, h1⟩
        · exact absurd ⟨c, h6, h44, h1⟩ hn
        · exact ⟨i, fun _ _ => h1⟩
      · exact ⟨0, fun _ z => absurd z h44⟩
    · exact ⟨0, fun z => absurd z h6⟩
  have hs : ∀ j, j < 38 → ((hf (j + 6)).choose < 38 ∧ ce (hf (j + 6)).choose = nI (j + 6)) := fun j hj => (hf (j + 6)).choose_spec (by omega) (by omega)
  have hm : id ∈ (List.range 38).map (fun j => (hf (j + 6)).choose) := by
    refine covers_all 38 _ ?_ ?_ (by simp) id hid
    · refine List.pairwise_map.mpr (List.Pairwise.imp_of_mem ?_ List.pairwise_lt_range)
      intro x y hx hy hxy e
      have h1 := hs x (List.mem_range.mp hx)
      have h2 := hs y (List.mem_range.mp hy)
      have h3 : nI (x + 6) = nI (y + 6) := h1.2.symm.trans (e ▸ h2.2)
      have := bz_inj h3 (by have := List.mem_range.mp hx; omega) (by have := List.mem_range.mp hy; omega)
      omega
    · intro x hx
      obtain ⟨j, hj, rfl⟩ := List.mem_map.mp hx
      exact (hs j (List.mem_range.mp hj)).1
  obtain ⟨j, hj, rfl⟩ := List.mem_map.mp hm
  have h1 := hs j (List.mem_range.mp hj)
  have h2 : ce (hf (j + 6)).choose = -1 := he
  rw [h1.2] at h2
  exact absurd h2 (bz_n1 (by have := List.mem_range.mp hj; omega))
/-- one value dropped on the belt -/
theorem zc_Tdrop {op x y z tag : Int32} {id : Nat} {I' : Nat → Bool} {mo' : Nat → Int32} (B : zc_BI L OB VC nc b hv lo ops fA fB fC ow ou pre I un cl co cx cy cz ct us ce mo bu) (hL : 4 ≤ L) (SF : zc_SF L VC I un mo ce id) (hid : id < 38) (h17 : op ≠ 17) (hi : zm_okI L op x y z tag)
    (hr : ∀ (V : Nat → Int32) (m0 m : zm_M), zm_Eq ops fA fB fC ow nc b V → zm_Sv L OB b hv ou mo ce I V m0 m → zm_res op x y z m = V id)
    (ht : (tag = -1 ∧ I' = I) ∨ (tag = nI id ∧ I' = fun j => if j = id then true else I j)) (hm : ∀ i, i < L → mo' i = zm_sh (nI id) mo i) :
    zc_BI L OB VC nc b hv lo ops fA fB fC ow ou pre I' un (cl + 1) (upd co cl op) (upd cx cl x) (upd cy cl y) (upd cz cl z) (upd ct cl tag) us ce mo' bu := by
  obtain ⟨h1, h2, h3, h4, h5, h6, h7⟩ := B
  have e : cl + 1 - lo = cl - lo + 1 := by omega
  refine ⟨?_, by omega, ?_, ?_, h5, h6, ?_⟩
  · rw [e]
    exact zm_emit h1 (by omega) hi (fun V m0 m hV hS => zm_mono (zm_drop h17 hid (hr V m0 m hV hS) hS ht) hm (fun _ _ => Or.inl rfl))
  · intro i hi
    have : i ≠ cl := by omega
    rw [h3 i hi, pk_un this, pk_un this, pk_un this, pk_un this, pk_un this]
  · intro i hi
    rw [hm i hi]
    unfold zm_sh
    by_cases e0 : i = 0
    · rw [if_pos e0]; exact Or.inr (zb_INof hid)
    · rw [if_neg e0]; exact h4 (i - 1) (by omega)
  · intro id' hid' hh hu
    by_cases e1 : id' = id
    · refine Or.inl ⟨0, by omega, ?_⟩
      rw [hm 0 (by omega), e1]
      rfl
    · have hh2 : zc_hv VC I id' := by
        rcases ht with ⟨_, rfl⟩ | ⟨_, rfl⟩
        · exact hh
        · rcases hh with hh | hh
          · dsimp only at hh
            rw [if_neg e1] at hh
            exact Or.inl hh
          · exact Or.inr hh
      rcases h7 id' hid' hh2 hu with ⟨i, hi, he⟩ | he
      · by_cases e2 : i = L - 1
        · rcases SF id' hid' e1 (e2 ▸ he) hh2 hu with ⟨i', hi', he'⟩ | he'
          · refine Or.inl ⟨i' + 1, by omega, ?_⟩
            rw [hm (i' + 1) (by omega)]
            exact he'
          · exact Or.inr he'
        · refine Or.inl ⟨i + 1, by omega, ?_⟩
          rw [hm (i + 1) (by omega)]
          exact he
      · exact Or.inr he
/-- the far end spilled -/
theorem zc_Tsave {id c : Nat} (B : zc_BI L OB VC nc b hv lo ops fA fB fC ow ou pre I un cl co cx cy cz ct us ce mo bu) (hL : 4 ≤ L) (hL2 : L ≤ 12) (hV : VC ≤ 6) (hh : hv ≤ 6) (hid : id < 38) (hm : mo (L - 1) = nI id) (hc : ce id = -1) (h6 : 6 ≤ c) (h44 : c < 44) (hb : bu c = 0) :
    zc_BI L OB VC nc b hv lo ops fA fB fC ow ou pre I un (cl + 1) (upd co cl 17) (upd cx cl (nI (L - 1))) (upd cy cl (nI c)) (upd cz cl 0) (upd ct cl (-1)) us (upd ce id (nI c)) mo (upd bu c 1) ∧ (∀ x, zc_SF L VC I un mo (upd ce id (nI c)) x) := by
  obtain ⟨h1, h2, h3, h4, h5, h6', h7⟩ := B
  have e : cl + 1 - lo = cl - lo + 1 := by omega
  have hne : nI c ≠ -1 := bz_n1 (by omega)
  have hfr := fun id' (hid' : id' < 38) => zc_free1 h5 hV h6 h44 hb (id := id') hid'
  refine ⟨⟨?_, by omega, ?_, h4, ?_, h6', ?_⟩, ?_⟩
  · rw [e]
    refine zm_emit h1 (by omega) ⟨Or.inr (Or.inr (Or.inl ⟨rfl, zb_INof (by omega), zb_INof h44⟩)), Or.inl rfl⟩ (fun V m0 m hV hS => ?_)
    exact zm_store (by omega) hid hm hL2 h44 h6 hh hfr hS
  · intro i hi
    have : i ≠ cl := by omega
    rw [h3 i hi, pk_un this, pk_un this, pk_un this, pk_un this, pk_un this]
  · obtain ⟨c1, c2, c3, c4⟩ := h5
    refine ⟨?_, ?_, ?_, ?_⟩
    · intro i hi
      by_cases e1 : i = id
      · subst e1
        rw [pk_us]
        exact Or.inr ⟨c, rfl, Or.inl ⟨h6, h44, pk_us⟩⟩
      · rw [pk_un e1]
        rcases c1 i hi with z | ⟨c', z1, z2 | z2⟩
        · exact Or.inl z
        · refine Or.inr ⟨c', z1, Or.inl ⟨z2.1, z2.2.1, ?_⟩⟩
          by_cases e2 : c' = c
          · rw [e2, pk_us]
          · rw [pk_un e2]; exact z2.2.2
        · exact Or.inr ⟨c', z1, Or.inr z2⟩
    · intro i i' hi hi' he hn
      by_cases e1 : i = id
      · by_cases e2 : i' = id
        · rw [e1, e2]
        · rw [e1, pk_us, pk_un e2] at he
          exact absurd he.symm (hfr i' hi')
      · by_cases e2 : i' = id
        · rw [e2, pk_us, pk_un e1] at he
          exact absurd he (hfr i hi)
        · rw [pk_un e1, pk_un e2] at he
          rw [pk_un e1] at hn
          exact c2 i i' hi hi' he hn
    · intro c' z6 z44
      by_cases e2 : c' = c
      · rw [e2, pk_us]
        exact Or.inr ⟨rfl, id, hid, pk_us⟩
      · rw [pk_un e2]
        rcases c3 c' z6 z44 with z | ⟨z, i, hi, he⟩
        · exact Or.inl z
        · refine Or.inr ⟨z, i, hi, ?_⟩
          rw [pk_un]
          · exact he
          · intro e1
            rw [e1, hc] at he
            exact absurd he (bz_m1n (by omega))
    · intro v z1 z2
      have e1 : 32 + v ≠ id := by
        intro e1
        have := c4 v z1 z2
        rw [e1, hc] at this
        exact absurd this (bz_m1n (by omega))
      rw [pk_un e1]
      exact c4 v z1 z2
  · intro i hi hh' hu
    by_cases e1 : i = id
    · rw [e1, pk_us]; exact Or.inr hne
    · rw [pk_un e1]; exact h7 i hi hh' hu
  · intro x i hi _ he hh' hu
    have : i = id := bz_inj (he.symm.trans hm) (by omega) (by omega)
    rw [this, pk_us]
    exact Or.inr hne
/-- a cell given back -/
theorem zc_Trel {id c : Nat} (B : zc_BI L OB VC nc b hv lo ops fA fB fC ow ou pre I un cl co cx cy cz ct us ce mo bu) (hV : VC ≤ 6) (hid : id < 38) (hu : un id = 0) (hc : ce id = nI c) (h6 : 6 ≤ c) (h44 : c < 44) : zc_BI L OB VC nc b hv lo ops fA fB fC ow ou pre I un cl co cx cy cz ct us (upd ce id (-1)) mo (upd bu c 0) := by
  obtain ⟨h1, h2, h3, h4, ⟨c1, c2, c3, c4⟩, h6', h7⟩ := B
  have hcn : ce id ≠ -1 := by rw [hc]; exact bz_n1 (by omega)
  refine ⟨?_, h2, h3, h4, ⟨?_, ?_, ?_, ?_⟩, h6', ?_⟩
  · refine zm_simM h1 (fun _ _ => rfl) (fun i _ => ?_)
    by_cases e1 : i = id
    · rw [e1, pk_us]; exact Or.inr rfl
    · rw [pk_un e1]; exact Or.inl rfl
  · intro i hi
    by_cases e1 : i = id
    · rw [e1, pk_us]; exact Or.inl rfl
    · rw [pk_un e1]
      rcases c1 i hi with z | ⟨c', z1, z2 | z2⟩
      · exact Or.inl z
      · refine Or.inr ⟨c', z1, Or.inl ⟨z2.1, z2.2.1, ?_⟩⟩
        have e2 : c' ≠ c := by
          intro e2
          apply e1
          refine c2 i id hi hid ?_ ?_
          · rw [z1, hc, e2]
          · rw [z1]; exact bz_n1 (by omega)
        rw [pk_un e2]; exact z2.2.2
      · exact Or.inr ⟨c', z1, Or.inr z2⟩
  · intro i i' hi hi' he hn
    by_cases e1 : i = id
    · rw [e1, pk_us] at hn
      exact absurd rfl hn
    · rw [pk_un e1] at he hn
      by_cases e2 : i' = id
      · rw [e2, pk_us] at he
        exact absurd he hn
      · rw [pk_un e2] at he
        exact c2 i i' hi hi' he hn
  · intro c' z6 z44
    by_cases e2 : c' = c
    · rw [e2, pk_us]; exact Or.inl rfl
    · rw [pk_un e2]
      rcases c3 c' z6 z44 with z | ⟨z, i, hi, he⟩
      · exact Or.inl z
      · refine Or.inr ⟨z, i, hi, ?_⟩
        rw [pk_un]
        · exact he
        · intro e1
          rw [e1, hc] at he
          exact e2 (bz_inj he (by omega) (by omega)).symm
  · intro v z1 z2
    have e1 : 32 + v ≠ id := by
      intro e1
      have := c4 v z1 z2
      rw [e1, hc] at this
      have := bz_inj this (by omega) (by omega)
      omega
    rw [pk_un e1]
    exact c4 v z1 z2
  · intro i hi hh' hu'
    have e1 : i ≠ id := by
      intro e1
      rw [e1, hu] at hu'
      omega
    rw [pk_un e1]; exact h7 i hi hh' hu'
/-- fewer uses left -/
theorem zc_Tuse {us' : Nat → Int32} {un' : Nat → Nat} (B : zc_BI L OB VC nc b hv lo ops fA fB fC ow ou pre I un cl co cx cy cz ct us ce mo bu) (hl : ∀ id, id < 38 → un' id ≤ un id) (hu : ∀ id, id < 38 → us' id = nI (un' id)) : zc_BI L OB VC nc b hv lo ops fA fB fC ow ou pre I un' cl co cx cy cz ct us' ce mo bu := by
  obtain ⟨h1, h2, h3, h4, h5, h6, h7⟩ := B
  exact ⟨h1, h2, h3, h4, h5, fun id hid => ⟨hu id hid, Nat.le_trans (hl id hid) (h6 id hid).2⟩, fun id hid hh hu' => h7 id hid hh (Nat.lt_of_lt_of_le hu' (hl id hid))⟩
/-- a home cell gets its new value -/
theorem zc_Thome {i id : Nat} (B : zc_BI L OB VC nc b hv lo ops fA fB fC ow ou pre I un cl co cx cy cz ct us ce mo bu) (hL2 : L ≤ 12) (hV : VC ≤ 6) (hi : i < L) (hid : id < 38) (hm : mo i = nI id) (hs : zm_sr ou b hv = id) (hO : OB ≤ hv) (hh : hv < VC) (hu : ou (b * 6 + hv) ≠ -1) :
    zc_BI L OB VC nc b (hv + 1) lo ops fA fB fC ow ou pre I un (cl + 1) (upd co cl 17) (upd cx cl (nI i)) (upd cy cl (nI hv)) (upd cz cl 0) (upd ct cl (-1)) us ce mo bu := by
  obtain ⟨h1, h2, h3, h4, h5, h6, h7⟩ := B
  have e : cl + 1 - lo = cl - lo + 1 := by omega
  refine ⟨?_, by omega, ?_, h4, h5, h6, h7⟩
  · rw [e]
    refine zm_emit h1 (by omega) ⟨Or.inr (Or.inr (Or.inl ⟨rfl, zb_INof hi, zb_INof (by omega)⟩)), Or.inl rfl⟩ (fun V m0 m hV hS => ?_)
    refine zm_home hi hid hm hL2 hs hO (by omega) hu (fun id' hid' hne he => ?_) hS
    rcases h5.1 id' hid' with z | ⟨c', z1, z2 | z2⟩
    · rw [z] at he
      exact absurd he (bz_m1n (by omega))
    · have := bz_inj (z1.symm.trans he) (by omega) (by omega)
      omega
    · have := bz_inj (z1.symm.trans he) (by omega) (by omega)
      omega
  · intro i hi
    have : i ≠ cl := by omega
    rw [h3 i hi, pk_un this, pk_un this, pk_un this, pk_un this, pk_un this]
theorem zc_Tskip (B : zc_BI L OB VC nc b hv lo ops fA fB fC ow ou pre I un cl co cx cy cz ct us ce mo bu) (hu : ou (b * 6 + hv) = -1) : zc_BI L OB VC nc b (hv + 1) lo ops fA fB fC ow ou pre I un cl co cx cy cz ct us ce mo bu := by
  obtain ⟨h1, h2⟩ := B
  exact ⟨⟨h1.1, fun V m0 hV hE => zm_hskip hu (h1.2 V m0 hV hE)⟩, h2⟩
end ZC
end
section
/-! X's small methods over the printed predicates -/
section ZX
variable {L VC OB nc bc cl ol : Nat} {f_nodeCap f_blockCap f_phase f_place f_last f_result f_fault f_mFill f_mStore f_mHalt f_mJump f_front f_raw f_ids f_homes f_cellCount : Int32} {ops fA fB fC ow kd en et eu ou vl rn co cx cy cz ct cs be cc od us ce mo dn bu : Nat → Int32}
theorem zx_find (h12 : L ≤ 12) {post : Int32 → Prop} {x : Int32} (h : ∀ r, zb_fst (fun i => mo i = x) L r → post r) : wpX_find post ((nI L), f_nodeCap, f_blockCap, (nI VC), (nI OB), (nI nc), (nI bc), f_phase, f_place, f_last, f_result, f_fault, f_mFill, f_mStore, f_mHalt, f_mJump, (nI cl), f_front, f_raw, f_ids, f_homes, f_cellCount, (nI ol), ops, fA, fB, fC, ow, kd, en, et, eu, ou, vl, rn, co, cx, cy, cz, ct, cs, be, cc, od, us, ce, mo, dn, bu) x := by
  have key : ∀ d i, i + d = L → (∀ j, j < i → ¬ mo j = x) → wX_find_2 post x (nI L) f_nodeCap f_blockCap (nI VC) (nI OB) (nI nc) (nI bc) f_phase f_place f_last f_result f_fault f_mFill f_mStore f_mHalt f_mJump (nI cl) f_front f_raw f_ids f_homes f_cellCount (nI ol) ops fA fB fC ow kd en et eu ou vl rn co cx cy cz ct cs be cc od us ce mo dn bu (d + 1) (nI i) := by
    intro d
    induction d with
    | zero =>
      intro i hi hj
      exact br_t (nI_le (by omega) (by omega)) (h _ (Or.inl ⟨rfl, fun j hj' => hj j (by omega)⟩))
    | succ d ih =>
      intro i hi hj
      refine br_f (nI_ge (by omega) (by omega)) (And.intro (vp_in_nI (by omega) (by decide)) ?_)
      rw [nI_clamp (show i < 2 ^ 31 by omega)]
      refine br_c (fun e => h _ (Or.inr ⟨i, by omega, rfl, e, hj⟩)) (fun ne => nm_r (nI_1 i) (ih (i + 1) (by omega) ?_))
      intro j hj'
      by_cases e : j = i
      · subst e; exact ne
      · exact hj j (by omega)
  exact ⟨L + 1, key L 0 (by omega) (fun j hj => absurd hj (by omega))⟩
theorem zx_fu {post : Int32 → Prop} {op : Int32} (h : post (nI (zp_fu op))) : wpX_fieldsUsed post ((nI L), f_nodeCap, f_blockCap, (nI VC), (nI OB), (nI nc), (nI bc), f_phase, f_place, f_last, f_result, f_fault, f_mFill, f_mStore, f_mHalt, f_mJump, (nI cl), f_front, f_raw, f_ids, f_homes, f_cellCount, (nI ol), ops, fA, fB, fC, ow, kd, en, et, eu, ou, vl, rn, co, cx, cy, cz, ct, cs, be, cc, od, us, ce, mo, dn, bu) op := by
  unfold zp_fu at h
  refine br_c (fun e => ?_) (fun e => ?_)
  · rw [if_pos e] at h
    refine br_c (fun e2 => ?_) (fun e2 => ?_)
    · rw [if_pos e2] at h; exact h
    · rw [if_neg e2] at h; exact h
  · rw [if_neg e] at h; exact h
theorem zx_ar {post : Int32 → Prop} {op : Int32} (h : post (nI (zp_ar op))) : wpX_arity post ((nI L), f_nodeCap, f_blockCap, (nI VC), (nI OB), (nI nc), (nI bc), f_phase, f_place, f_last, f_result, f_fault, f_mFill, f_mStore, f_mHalt, f_mJump, (nI cl), f_front, f_raw, f_ids, f_homes, f_cellCount, (nI ol), ops, fA, fB, fC, ow, kd, en, et, eu, ou, vl, rn, co, cx, cy, cz, ct, cs, be, cc, od, us, ce, mo, dn, bu) op := by
  unfold zp_ar at h
  refine br_c (fun e => ?_) (fun e => ?_)
  · rw [if_pos e] at h; exact h
  · rw [if_neg e] at h; exact zx_fu h
theorem zx_opId {post : Int32 → Prop} {n k : Nat} (hn : n < 32) (hk : k < 3) (h : post (zp_opI ops fA fB fC n k)) : wpX_operandId post ((nI L), f_nodeCap, f_blockCap, (nI VC), (nI OB), (nI nc), (nI bc), f_phase, f_place, f_last, f_result, f_fault, f_mFill, f_mStore, f_mHalt, f_mJump, (nI cl), f_front, f_raw, f_ids, f_homes, f_cellCount, (nI ol), ops, fA, fB, fC, ow, kd, en, et, eu, ou, vl, rn, co, cx, cy, cz, ct, cs, be, cc, od, us, ce, mo, dn, bu) (nI n) (nI k) := by
  have hi : vp_in (nI n) 32 := vp_in_nI hn (by decide)
  refine And.intro hi ?_
  rw [nI_clamp (show n < 2 ^ 31 by omega)]
  unfold zp_opI at h
  refine br_c (fun e => ?_) (fun e => ?_)
  · rw [if_pos e] at h; exact ⟨hi, h⟩
  · rw [if_neg e] at h
    refine pk_eq k 0 (fun e0 => ?_) (fun e0 => ?_)
    · rw [if_pos e0] at h; exact ⟨hi, h⟩
    · rw [if_neg e0] at h
      refine pk_eq k 1 (fun e1 => ?_) (fun e1 => ?_)
      · rw [if_pos e1] at h; exact ⟨hi, h⟩
      · rw [if_neg e1] at h; exact ⟨hi, h⟩
theorem zx_emit {post : SX → Prop} {p0 p1 p2 p3 p4 : Int32} (hcl : cl < 1024) (h : post ((nI L), f_nodeCap, f_blockCap, (nI VC), (nI OB), (nI nc), (nI bc), f_phase, f_place, f_last, f_result, f_fault, f_mFill, f_mStore, f_mHalt, f_mJump, (nI (cl + 1)), f_front, f_raw, f_ids, f_homes, f_cellCount, (nI ol), ops, fA, fB, fC, ow, kd, en, et, eu, ou, vl, rn, (upd co cl p0), (upd cx cl p1), (upd cy cl p2), (upd cz cl p3), (upd ct cl p4), cs, be, cc, od, us, ce, mo, dn, bu)) : wpX_emit post ((nI L), f_nodeCap, f_blockCap, (nI VC), (nI OB), (nI nc), (nI bc), f_phase, f_place, f_last, f_result, f_fault, f_mFill, f_mStore, f_mHalt, f_mJump, (nI cl), f_front, f_raw, f_ids, f_homes, f_cellCount, (nI ol), ops, fA, fB, fC, ow, kd, en, et, eu, ou, vl, rn, co, cx, cy, cz, ct, cs, be, cc, od, us, ce, mo, dn, bu) p0 p1 p2 p3 p4 := by
  have hi : vp_in (nI cl) 1024 := vp_in_nI hcl (by decide)
  have e : (nI cl).toNatClampNeg = cl := nI_clamp (by omega)
  refine br_t (nI_lt (b := 1024) hcl (by decide)) ?_
  rw [e]
  refine And.intro hi (nm_e (And.intro hi (nm_e (And.intro hi (nm_e (And.intro hi (nm_e (And.intro hi (nm_e (nm_r (nI_1 cl) h)))))))))) 
theorem zx_push (h4 : 1 ≤ L) (h12 : L ≤ 12) {post : SX → Prop} {x : Int32} (h : ∀ mo', (∀ j, j < L → mo' j = zm_sh x mo j) → post ((nI L), f_nodeCap, f_blockCap, (nI VC), (nI OB), (nI nc), (nI bc), f_phase, f_place, f_last, f_result, f_fault, f_mFill, f_mStore, f_mHalt, f_mJump, (nI cl), f_front, f_raw, f_ids, f_homes, f_cellCount, (nI ol), ops, fA, fB, fC, ow, kd, en, et, eu, ou, vl, rn, co, cx, cy, cz, ct, cs, be, cc, od, us, ce, mo', dn, bu)) : wpX_push post ((nI L), f_nodeCap, f_blockCap, (nI VC), (nI OB), (nI nc), (nI bc), f_phase, f_place, f_last, f_result, f_fault, f_mFill, f_mStore, f_mHalt, f_mJump, (nI cl), f_front, f_raw, f_ids, f_homes, f_cellCount, (nI ol), ops, fA, fB, fC, ow, kd, en, et, eu, ou, vl, rn, co, cx, cy, cz, ct, cs, be, cc, od, us, ce, mo, dn, bu) x := by
  have key : ∀ i (m : Nat → Int32), i < L → (∀ j, j ≤ i → m j = mo j) → (∀ j, i < j → j < L → m j = mo (j - 1)) → wX_push_7 post x (nI L) f_nodeCap f_blockCap (nI VC) (nI OB) (nI nc) (nI bc) f_phase f_place f_last f_result f_fault f_mFill f_mStore f_mHalt f_mJump (nI cl) f_front f_raw f_ids f_homes f_cellCount (nI ol) (i + 1) (nI i) ops fA fB fC ow kd en et eu ou vl rn co cx cy cz ct cs be cc od us ce m dn bu := by
    intro i
    induction i with
    | zero =>
      intro m hi h1 h2
      refine br_t (Int32.le_refl 0) (nm_e (h _ ?_))
      intro j hj
      unfold zm_sh
      by_cases e : j = 0
      · rw [if_pos e, e, pk_us]
      · rw [if_neg e, pk_un e]; exact h2 j (by omega) hj
    | succ i ih =>
      intro m hi h1 h2
      refine br_f (nI_nle (by omega) (by omega)) ?_
      rw [nI_pred i, nI_clamp (show i < 2 ^ 31 by omega), nI_clamp (show i + 1 < 2 ^ 31 by omega), pk_m1 i]
      refine And.intro (vp_in_nI (by omega) (by decide)) (And.intro (vp_in_nI (by omega) (by decide)) (nm_e (nm_e (ih _ (by omega) ?_ ?_))))
      · intro j hj
        rw [pk_un (by omega)]; exact h1 j (by omega)
      · intro j hj hj'
        by_cases e : j = i + 1
        · rw [e, pk_us]; exact h1 i (by omega)
        · rw [pk_un e]; exact h2 j (by omega) hj'
  refine nm_r (bz_sub1 (by omega)) ⟨L - 1 + 1, key (L - 1) mo (by omega) (fun _ _ => rfl) (fun j hj hj' => absurd hj (by omega))⟩
def zc_rk (mo : Nat → Int32) (un : Nat → Nat) (ce : Nat → Int32) (i : Nat) : Prop := ∃ id, id < 38 ∧ mo i = nI id ∧ 0 < un id ∧ ce id = -1 ∧ ∀ j, j < i → mo j ≠ nI id
theorem zx_atRisk {un : Nat → Nat} {i : Nat} (h12 : L ≤ 12) (hi : i < L) (hm : mo i = -1 ∨ zb_IN (mo i) 38) (hu : ∀ id, id < 38 → us id = nI (un id) ∧ un id ≤ 200) {post : Int32 → Prop} (h1 : zc_rk mo un ce i → post 1) (h0 : ¬ zc_rk mo un ce i → post 0) : wpX_atRisk post ((nI L), f_nodeCap, f_blockCap, (nI VC), (nI OB), (nI nc), (nI bc), f_phase, f_place, f_last, f_result, f_fault, f_mFill, f_mStore, f_mHalt, f_mJump, (nI cl), f_front, f_raw, f_ids, f_homes, f_cellCount, (nI ol), ops, fA, fB, fC, ow, kd, en, et, eu, ou, vl, rn, co, cx, cy, cz, ct, cs, be, cc, od, us, ce, mo, dn, bu) (nI i) := by
  refine And.intro (vp_in_nI (by omega) (by decide)) ?_
  rw [nI_clamp (show i < 2 ^ 31 by omega)]
  rcases hm with e | ⟨id, hid, e⟩
  · refine nm_r e (br_t bz_nm1lt (h0 ?_))
    rintro ⟨id, hid, e1, _⟩
    exact bz_m1n (by omega) (e.symm.trans e1)
  · have hid' : id < 2 ^ 31 := by omega
    have hin : vp_in (nI id) 38 := vp_in_nI hid (by decide)
    have hinj : ∀ id', id' < 38 → mo i = nI id' → id' = id := fun id' h e' => bz_inj (e'.symm.trans e) (by omega) (by omega)
    refine nm_r e (br_f (nI_pos hid') (And.intro hin ?_))
    rw [nI_clamp hid', (hu id hid).1]
    refine br_c (fun z => h0 ?_) (fun z => And.intro hin (br_c (fun e2 => ?_) (fun e2 => h0 ?_)))
    · rintro ⟨id', hid', e1, e2, _⟩
      rw [hinj id' hid' e1] at e2
      have := (hu id hid).2
      rw [bz_le0 (by omega)] at z
      omega
    · refine zx_find h12 (fun r hr => br_c (fun e3 => h1 ?_) (fun e3 => h0 ?_))
      · refine ⟨id, hid, e, ?_, e2, ?_⟩
        · have := (hu id hid).2
          rw [bz_le0 (by omega)] at z
          omega
        · rcases hr with ⟨hr, _⟩ | ⟨j, hj, hr, _, hl⟩
          · rw [e3] at hr
            exact absurd hr (bz_n1 (by omega))
          · rw [e3] at hr
            have := bz_inj hr (by omega) (by omega)
            subst this
            exact hl
      · rintro ⟨id', hid', e1, _, _, e4⟩
        rw [hinj id' hid' e1] at e4
        rcases hr with ⟨_, hr⟩ | ⟨j, hj, hr, hj2, hl⟩
        · exact hr i hi e
        · apply e3
          rw [hr]
          by_cases c1 : j < i
          · exact absurd hj2 (e4 j c1)
          · by_cases c2 : i < j
            · exact absurd e (hl i c2)
            · rw [show j = i by omega]
    · rintro ⟨id', hid', e1, _, e4, _⟩
      rw [hinj id' hid' e1] at e4
      exact e2 e4
theorem zx_freeCell {post : Int32 → Prop} (hx : ∃ c, 6 ≤ c ∧ c < 44 ∧ bu c = 0) (h : ∀ c, 6 ≤ c → c < 44 → bu c = 0 → post (nI c)) : wpX_freeCell post ((nI L), f_nodeCap, f_blockCap, (nI VC), (nI OB), (nI nc), (nI bc), f_phase, f_place, f_last, f_result, f_fault, f_mFill, f_mStore, f_mHalt, f_mJump, (nI cl), f_front, f_raw, f_ids, f_homes, f_cellCount, (nI ol), ops, fA, fB, fC, ow, kd, en, et, eu, ou, vl, rn, co, cx, cy, cz, ct, cs, be, cc, od, us, ce, mo, dn, bu) := by
  obtain ⟨c0, h6, h44, h0⟩ := hx
  have key : ∀ d c, c + d = 44 → 6 ≤ c → c ≤ c0 → wX_freeCell_3 post (nI L) f_nodeCap f_blockCap (nI VC) (nI OB) (nI nc) (nI bc) f_phase f_place f_last f_result f_fault f_mFill f_mStore f_mHalt f_mJump (nI cl) f_front f_raw f_ids f_homes f_cellCount (nI ol) ops fA fB fC ow kd en et eu ou vl rn co cx cy cz ct cs be cc od us ce mo dn bu (d + 1) (nI c) := by
    intro d
    induction d with
    | zero => intro c hc; omega
    | succ d ih =>
      intro c hc h6' hle
      refine br_f (nI_ge (b := 44) (by omega) (by decide)) (And.intro (vp_in_nI (by omega) (by decide)) ?_)
      rw [nI_clamp (show c < 2 ^ 31 by omega)]
      refine br_c (fun e => h c h6' (by omega) e) (fun e => nm_r (nI_1 c) (ih (c + 1) (by omega) (by omega) ?_))
      by_cases e2 : c = c0
      · subst e2; exact absurd h0 e
      · omega
  exact ⟨39, key 38 6 (by omega) (by omega) h6⟩
end ZX
end
section
/-! X's belt and cells: save, copy, fetch, release, uses -/
def zc_K (L OB VC nc b hv : Nat) : Prop := 4 ≤ L ∧ L ≤ 12 ∧ OB < L ∧ OB ≤ VC ∧ VC ≤ 6 ∧ nc ≤ 32 ∧ b < 6 ∧ hv ≤ VC
section ZX
variable {L VC OB nc bc cl ol : Nat} {f_nodeCap f_blockCap f_phase f_place f_last f_result f_fault f_mFill f_mStore f_mHalt f_mJump f_front f_raw f_ids f_homes f_cellCount : Int32} {ops fA fB fC ow kd en et eu ou vl rn co cx cy cz ct cs be cc od us ce mo dn bu : Nat → Int32}
variable {b hv lo : Nat} {pre : Nat → Int32 × Int32 × Int32 × Int32 × Int32} {I : Nat → Bool} {un : Nat → Nat}
theorem zx_save (B : zc_BI L OB VC nc b hv lo ops fA fB fC ow ou pre I un cl co cx cy cz ct us ce mo bu) (K : zc_K L OB VC nc b hv) (hcl : cl < 1024) {post : SX → Prop}
    (h : ∀ cl' co' cx' cy' cz' ct' ce' bu', cl ≤ cl' → cl' ≤ cl + 1 → zc_BI L OB VC nc b hv lo ops fA fB fC ow ou pre I un cl' co' cx' cy' cz' ct' us ce' mo bu' → (∀ x, zc_SF L VC I un mo ce' x) → (∀ id, id < 38 → ce id ≠ -1 → ce' id ≠ -1) → post ((nI L), f_nodeCap, f_blockCap, (nI VC), (nI OB), (nI nc), (nI bc), f_phase, f_place, f_last, f_result, f_fault, f_mFill, f_mStore, f_mHalt, f_mJump, (nI cl'), f_front, f_raw, f_ids, f_homes, f_cellCount, (nI ol), ops, fA, fB, fC, ow, kd, en, et, eu, ou, vl, rn, co', cx', cy', cz', ct', cs, be, cc, od, us, ce', mo, dn, bu')) : wpX_save post ((nI L), f_nodeCap, f_blockCap, (nI VC), (nI OB), (nI nc), (nI bc), f_phase, f_place, f_last, f_result, f_fault, f_mFill, f_mStore, f_mHalt, f_mJump, (nI cl), f_front, f_raw, f_ids, f_homes, f_cellCount, (nI ol), ops, fA, fB, fC, ow, kd, en, et, eu, ou, vl, rn, co, cx, cy, cz, ct, cs, be, cc, od, us, ce, mo, dn, bu) := by
  obtain ⟨k1, k2, k3, k4, k5, k6, k7, k8⟩ := K
  have e : nI L - 1 = nI (L - 1) := bz_sub1 (by omega)
  unfold wpX_save
  dsimp only
  rw [e]
  refine zx_atRisk (un := un) k2 (by omega) (B.2.2.2.1 _ (by omega)) B.2.2.2.2.2.1 (fun hr => ?_) (fun hr => ?_)
  · obtain ⟨id, hid, hm, hu, hc, _⟩ := hr
    refine br_f (by decide) (And.intro (vp_in_nI (by omega) (by decide)) ?_)
    rw [nI_clamp (show L - 1 < 2 ^ 31 by omega)]
    refine nm_r hm (zx_freeCell (zc_free B.2.2.2.2.1 hid hc) (fun c h6 h44 hb => And.intro (vp_in_nI h44 (by decide)) ?_))
    rw [nI_clamp (show c < 2 ^ 31 by omega), nI_clamp (show id < 2 ^ 31 by omega), bz_b1]
    obtain ⟨B', S'⟩ := zc_Tsave B k1 k2 k5 (by omega) hid hm hc h6 h44 hb
    have hk : ∀ i, i < 38 → ce i ≠ -1 → upd ce id (nI c) i ≠ -1 := by
      intro i hi hn
      by_cases e1 : i = id
      · rw [e1, pk_us]; exact bz_n1 (by omega)
      · rw [pk_un e1]; exact hn
    have z := h _ _ _ _ _ _ _ _ (by omega) (by omega) B' S' hk
    exact nm_e (And.intro (vp_in_nI hid (by decide)) (nm_e (zx_emit hcl z)))
  · refine br_t rfl (h _ _ _ _ _ _ _ _ (Nat.le_refl _) (by omega) B ?_ (fun _ _ z => z))
    intro x id hid _ hm hh hu
    by_cases hc : ce id = -1
    · refine Or.inl (Classical.byContradiction fun hn => hr ⟨id, hid, hm, hu, hc, fun j hj hj' => hn ⟨j, hj, hj'⟩⟩)
    · exact Or.inr hc
theorem zx_copy {p : Nat} {tag : Int32} (hp : p < 38) (ht : tag = -1 ∨ zb_IN tag 32) (K : zc_K L OB VC nc b hv) (hcl : cl < 1024) (hce : zc_CE OB VC ce bu) (hav : (∃ i, i < L ∧ mo i = nI p) ∨ ce p ≠ -1) (hd : ¬ zm_HD ou b OB hv p) {post : SX → Prop}
    (h : ∀ op x, op ≠ 17 → zm_okI L op x 0 0 tag → (∀ (V : Nat → Int32) (m0 m : zm_M), zm_Eq ops fA fB fC ow nc b V → zm_Sv L OB b hv ou mo ce I V m0 m → zm_res op x 0 0 m = V p) → post ((nI L), f_nodeCap, f_blockCap, (nI VC), (nI OB), (nI nc), (nI bc), f_phase, f_place, f_last, f_result, f_fault, f_mFill, f_mStore, f_mHalt, f_mJump, (nI (cl + 1)), f_front, f_raw, f_ids, f_homes, f_cellCount, (nI ol), ops, fA, fB, fC, ow, kd, en, et, eu, ou, vl, rn, (upd co cl op), (upd cx cl x), (upd cy cl 0), (upd cz cl 0), (upd ct cl tag), cs, be, cc, od, us, ce, mo, dn, bu)) : wpX_copy post ((nI L), f_nodeCap, f_blockCap, (nI VC), (nI OB), (nI nc), (nI bc), f_phase, f_place, f_last, f_result, f_fault, f_mFill, f_mStore, f_mHalt, f_mJump, (nI cl), f_front, f_raw, f_ids, f_homes, f_cellCount, (nI ol), ops, fA, fB, fC, ow, kd, en, et, eu, ou, vl, rn, co, cx, cy, cz, ct, cs, be, cc, od, us, ce, mo, dn, bu) (nI p) tag := by
  obtain ⟨k1, k2, k3, k4, k5, k6, k7, k8⟩ := K
  unfold wpX_copy
  dsimp only
  refine zx_find k2 (fun r hr => ?_)
  rcases hr with ⟨rfl, hr⟩ | ⟨i, hi, rfl, hm, _⟩
  · refine br_t rfl (And.intro (vp_in_nI hp (by decide)) ?_)
    rw [nI_clamp (show p < 2 ^ 31 by omega)]
    have hn : ce p ≠ -1 := by
      rcases hav with ⟨i, hi, e⟩ | z
      · exact absurd e (hr i hi)
      · exact z
    obtain ⟨c, hc, hc2⟩ : ∃ c, ce p = nI c ∧ c < 44 := by
      rcases hce.1 p hp with z | ⟨c, z1, z2 | z2⟩
      · exact absurd z hn
      · exact ⟨c, z1, z2.2.1⟩
      · exact ⟨c, z1, by omega⟩
    refine zx_emit hcl (h 16 (ce p) (by decide) ⟨Or.inr (Or.inl ⟨rfl, hc ▸ zb_INof hc2⟩), ht⟩ (fun V m0 m _ hS => ?_))
    show m.2.1 (ce p).toNatClampNeg = V p
    rw [hc, nI_clamp (by omega)]
    exact hS.2.1 p hp c hc2 hc hd
  · refine br_f (bz_n1 (by omega)) (zx_emit hcl (h 1 (nI i) (by decide) ⟨Or.inr (Or.inr (Or.inr ⟨⟨1, by omega, by omega, rfl⟩, zb_INof hi, ⟨0, by omega, rfl⟩, ⟨0, by omega, rfl⟩⟩)), ht⟩ (fun V m0 m _ hS => ?_)))
    show m.1 (nI i).toNatClampNeg = V p
    rw [nI_clamp (by omega)]
    exact hS.1 i hi p hp hm
theorem zx_fetch {p : Nat} (hp : p < 38) (B : zc_BI L OB VC nc b hv lo ops fA fB fC ow ou pre I un cl co cx cy cz ct us ce mo bu) (K : zc_K L OB VC nc b hv) (hcl : cl + 2 ≤ 1024) (hh : zc_hv VC I p) (hu : 0 < un p) (hd : ¬ zm_HD ou b OB hv p) {post : SX → Prop}
    (h0 : (∃ i, i < L ∧ mo i = nI p) → post ((nI L), f_nodeCap, f_blockCap, (nI VC), (nI OB), (nI nc), (nI bc), f_phase, f_place, f_last, f_result, f_fault, f_mFill, f_mStore, f_mHalt, f_mJump, (nI cl), f_front, f_raw, f_ids, f_homes, f_cellCount, (nI ol), ops, fA, fB, fC, ow, kd, en, et, eu, ou, vl, rn, co, cx, cy, cz, ct, cs, be, cc, od, us, ce, mo, dn, bu))
    (h1 : ∀ cl' co' cx' cy' cz' ct' ce' mo' bu', cl ≤ cl' → cl' ≤ cl + 2 → zc_BI L OB VC nc b hv lo ops fA fB fC ow ou pre I un cl' co' cx' cy' cz' ct' us ce' mo' bu' → (∀ i, i < L → mo i ≠ nI p) → (∀ i, i < L → mo' i = zm_sh (nI p) mo i) → post ((nI L), f_nodeCap, f_blockCap, (nI VC), (nI OB), (nI nc), (nI bc), f_phase, f_place, f_last, f_result, f_fault, f_mFill, f_mStore, f_mHalt, f_mJump, (nI cl'), f_front, f_raw, f_ids, f_homes, f_cellCount, (nI ol), ops, fA, fB, fC, ow, kd, en, et, eu, ou, vl, rn, co', cx', cy', cz', ct', cs, be, cc, od, us, ce', mo', dn, bu')) : wpX_fetch post ((nI L), f_nodeCap, f_blockCap, (nI VC), (nI OB), (nI nc), (nI bc), f_phase, f_place, f_last, f_result, f_fault, f_mFill, f_mStore, f_mHalt, f_mJump, (nI cl), f_front, f_raw, f_ids, f_homes, f_cellCount, (nI ol), ops, fA, fB, fC, ow, kd, en, et, eu, ou, vl, rn, co, cx, cy, cz, ct, cs, be, cc, od, us, ce, mo, dn, bu) (nI p) := by
  have K' := K
  obtain ⟨k1, k2, k3, k4, k5, k6, k7, k8⟩ := K'
  unfold wpX_fetch
  dsimp only
  refine zx_find k2 (fun r hr => ?_)
  rcases hr with ⟨rfl, hr⟩ | ⟨i, hi, rfl, hm, _⟩
  · refine br_t rfl (zx_save B K (by omega) ?_)
    intro cl1 co1 cx1 cy1 cz1 ct1 ce1 bu1 hl1 hl2 B1 S1 hk
    have hav : (∃ i, i < L ∧ mo i = nI p) ∨ ce1 p ≠ -1 := by
      rcases B.2.2.2.2.2.2 p hp hh hu with z | z
      · exact Or.inl z
      · exact Or.inr (hk p hp z)
    refine zx_copy (I := I) hp (Or.inl rfl) K (by omega) B1.2.2.2.2.1 hav hd ?_
    intro op x h17 hok hres
    refine zx_push (by omega) k2 (fun mo' hmo => ?_)
    exact h1 _ _ _ _ _ _ _ _ _ (by omega) (by omega) (zc_Tdrop B1 k1 (S1 p) hp h17 hok hres (Or.inl ⟨rfl, rfl⟩) hmo) hr hmo
  · exact br_f (bz_n1 (by omega)) (h0 ⟨i, hi, hm⟩)
theorem zx_release {p : Nat} (hp : p < 38) (B : zc_BI L OB VC nc b hv lo ops fA fB fC ow ou pre I un cl co cx cy cz ct us ce mo bu) (K : zc_K L OB VC nc b hv) {post : SX → Prop} (h : ∀ ce' bu', zc_BI L OB VC nc b hv lo ops fA fB fC ow ou pre I un cl co cx cy cz ct us ce' mo bu' → post ((nI L), f_nodeCap, f_blockCap, (nI VC), (nI OB), (nI nc), (nI bc), f_phase, f_place, f_last, f_result, f_fault, f_mFill, f_mStore, f_mHalt, f_mJump, (nI cl), f_front, f_raw, f_ids, f_homes, f_cellCount, (nI ol), ops, fA, fB, fC, ow, kd, en, et, eu, ou, vl, rn, co, cx, cy, cz, ct, cs, be, cc, od, us, ce', mo, dn, bu')) : wpX_release post ((nI L), f_nodeCap, f_blockCap, (nI VC), (nI OB), (nI nc), (nI bc), f_phase, f_place, f_last, f_result, f_fault, f_mFill, f_mStore, f_mHalt, f_mJump, (nI cl), f_front, f_raw, f_ids, f_homes, f_cellCount, (nI ol), ops, fA, fB, fC, ow, kd, en, et, eu, ou, vl, rn, co, cx, cy, cz, ct, cs, be, cc, od, us, ce, mo, dn, bu) (nI p) := by
  obtain ⟨k1, k2, k3, k4, k5, k6, k7, k8⟩ := K
  have hi : vp_in (nI p) 38 := vp_in_nI hp (by decide)
  have hu := B.2.2.2.2.2.1 p hp
  refine And.intro hi ?_
  rw [nI_clamp (show p < 2 ^ 31 by omega)]
  refine br_c (fun e => And.intro hi ?_) (fun e => h _ _ B)
  rw [hu.1, bz_eq0 (by omega)] at e
  rcases B.2.2.2.2.1.1 p hp with z | ⟨c, z1, z2⟩
  · rw [z]
    exact br_t (by decide) (h _ _ B)
  · have hc : c < 44 := by omega
    rw [z1, nI_clamp (show c < 2 ^ 31 by omega)]
    refine pk_lt c 6 (fun _ => h _ _ B) (fun h6 => And.intro hi (And.intro (vp_in_nI hc (by decide)) ?_))
    rw [bz_b0]
    exact nm_e (And.intro hi (nm_e (h _ _ (zc_Trel B k5 hp e z1 h6 hc))))
/-! uses -/
def zc_au (ops fA fB fC : Nat → Int32) (d : Int32) (n : Nat) : Nat → (Nat → Int32) → Nat → Int32
  | 0, us => us
  | k + 1, us => upd (zc_au ops fA fB fC d n k us) (zp_op ops fA fB fC n k) (zc_au ops fA fB fC d n k us (zp_op ops fA fB fC n k) + d)
def zc_oc (ops fA fB fC : Nat → Int32) (n id : Nat) : Nat → Nat
  | 0 => 0
  | k + 1 => zc_oc ops fA fB fC n id k + (if zp_op ops fA fB fC n k = id then 1 else 0)
theorem zc_ocle (n id : Nat) : ∀ k, zc_oc ops fA fB fC n id k ≤ k
  | 0 => Nat.le_refl 0
  | k + 1 => by
    have := zc_ocle n id k
    show _ + (if _ then 1 else 0) ≤ _
    split <;> omega
theorem zc_ocin {n id : Nat} : ∀ k j, j < k → zp_op ops fA fB fC n j = id → 0 < zc_oc ops fA fB fC n id k
  | 0, j, h, _ => absurd h (by omega)
  | k + 1, j, h, e => by
    show 0 < _ + (if _ then 1 else 0)
    by_cases c : j = k
    · subst c; rw [if_pos e]; omega
    · have := zc_ocin k j (by omega) e
      omega
theorem zc_auP {n : Nat} (hu : ∀ id, id < 38 → us id = nI (un id)) : ∀ k, (∀ j, j < k → zp_op ops fA fB fC n j < 38) → ∀ id, id < 38 → zc_au ops fA fB fC 1 n k us id = nI (un id + zc_oc ops fA fB fC n id k)
  | 0, _, id, hid => hu id hid
  | k + 1, ho, id, hid => by
    show upd _ _ _ id = nI (un id + (_ + (if _ then 1 else 0)))
    by_cases e : zp_op ops fA fB fC n k = id
    · rw [if_pos e, e, pk_us, zc_auP hu k (fun j hj => ho j (by omega)) id hid, nI_1]
      rfl
    · rw [if_neg e, pk_un (fun z => e z.symm), zc_auP hu k (fun j hj => ho j (by omega)) id hid]
      rfl
theorem zc_auM {n : Nat} (hu : ∀ id, id < 38 → us id = nI (un id)) : ∀ k, (∀ j, j < k → zp_op ops fA fB fC n j < 38) → (∀ id, id < 38 → zc_oc ops fA fB fC n id k ≤ un id) → ∀ id, id < 38 → zc_au ops fA fB fC (-1) n k us id = nI (un id - zc_oc ops fA fB fC n id k)
  | 0, _, _, id, hid => hu id hid
  | k + 1, ho, hl, id, hid => by
    have hl2 : ∀ id, id < 38 → zc_oc ops fA fB fC n id k ≤ un id := fun i hi => Nat.le_trans (Nat.le_add_right _ _) (hl i hi)
    have hl3 := hl id hid
    have hl4 : zc_oc ops fA fB fC n id k + (if zp_op ops fA fB fC n k = id then 1 else 0) ≤ un id := hl3
    show upd _ _ _ id = nI (un id - (_ + (if _ then 1 else 0)))
    by_cases e : zp_op ops fA fB fC n k = id
    · rw [if_pos e] at hl4
      rw [if_pos e, e, pk_us, zc_auM hu k (fun j hj => ho j (by omega)) hl2 id hid, bz_dec (by omega), Nat.sub_sub]
    · rw [if_neg e, pk_un (fun z => e z.symm), zc_auM hu k (fun j hj => ho j (by omega)) hl2 id hid]
      rfl
theorem zx_addUses {n : Nat} {d : Int32} (hn : n < 32) (ho : ∀ k, k < zp_ar (ops n) → zp_opI ops fA fB fC n k = nI (zp_op ops fA fB fC n k) ∧ zp_op ops fA fB fC n k < 38) {post : SX → Prop} (h : post ((nI L), f_nodeCap, f_blockCap, (nI VC), (nI OB), (nI nc), (nI bc), f_phase, f_place, f_last, f_result, f_fault, f_mFill, f_mStore, f_mHalt, f_mJump, (nI cl), f_front, f_raw, f_ids, f_homes, f_cellCount, (nI ol), ops, fA, fB, fC, ow, kd, en, et, eu, ou, vl, rn, co, cx, cy, cz, ct, cs, be, cc, od, (zc_au ops fA fB fC d n (zp_ar (ops n)) us), ce, mo, dn, bu)) : wpX_addUses post ((nI L), f_nodeCap, f_blockCap, (nI VC), (nI OB), (nI nc), (nI bc), f_phase, f_place, f_last, f_result, f_fault, f_mFill, f_mStore, f_mHalt, f_mJump, (nI cl), f_front, f_raw, f_ids, f_homes, f_cellCount, (nI ol), ops, fA, fB, fC, ow, kd, en, et, eu, ou, vl, rn, co, cx, cy, cz, ct, cs, be, cc, od, us, ce, mo, dn, bu) (nI n) d := by
  have h3 := zp_ar3 (ops n)
  refine And.intro (vp_in_nI hn (by decide)) (zx_ar ?_)
  rw [nI_clamp (show n < 2 ^ 31 by omega)]
  have key : ∀ e k, k + e = zp_ar (ops n) → wX_addUses_14 post (nI n) d (nI (zp_ar (ops n))) (nI L) f_nodeCap f_blockCap (nI VC) (nI OB) (nI nc) (nI bc) f_phase f_place f_last f_result f_fault f_mFill f_mStore f_mHalt f_mJump (nI cl) f_front f_raw f_ids f_homes f_cellCount (nI ol) (e + 1) (nI k) ops fA fB fC ow kd en et eu ou vl rn co cx cy cz ct cs be cc od (zc_au ops fA fB fC d n k us) ce mo dn bu := by
    intro e
    induction e with
    | zero =>
      intro k hk
      refine br_t (nI_le (by omega) (by omega)) ?_
      rw [show k = zp_ar (ops n) by omega]
      exact h
    | succ e ih =>
      intro k hk
      obtain ⟨h1, h2⟩ := ho k (by omega)
      refine br_f (nI_ge (by omega) (by omega)) (zx_opId hn (by omega) ?_)
      rw [h1, nI_clamp (show zp_op ops fA fB fC n k < 2 ^ 31 by omega)]
      have hin : vp_in (nI (zp_op ops fA fB fC n k)) 38 := vp_in_nI h2 (by decide)
      exact And.intro hin (And.intro hin (nm_e (nm_r (nI_1 k) (ih (k + 1) (by omega)))))
  exact ⟨_, key (zp_ar (ops n)) 0 (by omega)⟩
end ZX
end
section
/-! gather: what is filled lies on the first three places -/
theorem zc_nsub : ∀ (O F : List Nat), F.Nodup → (∀ x, x ∈ F → x ∈ O) → F.length ≤ O.length
  | [], F, _, h => by
    cases F with
    | nil => exact Nat.le_refl 0
    | cons a F => exact absurd (h a (List.mem_cons_self ..)) (List.not_mem_nil)
  | a :: O, F, hn, h => by
    have h1 := zc_nsub O (F.erase a) (hn.erase a) (fun x hx => by
      have hx2 := (List.Nodup.mem_erase_iff hn).mp hx
      rcases List.mem_cons.mp (h x hx2.2) with e | e
      · exact absurd e hx2.1
      · exact e)
    have h2 := List.length_erase (a := a) (l := F)
    rw [List.length_cons]
    split at h2 <;> omega
theorem zc_nlen {F : List Nat} {u : Nat} {f : Nat → Nat} (hn : F.Nodup) (h : ∀ x, x ∈ F → ∃ j, j < u ∧ x = f j) : F.length ≤ u := by
  have := zc_nsub ((List.range u).map f) F hn (fun x hx => by
    obtain ⟨j, hj, e⟩ := h x hx
    exact List.mem_map.mpr ⟨j, List.mem_range.mpr hj, e.symm⟩)
  simpa using this
def zc_on (L : Nat) (mo : Nat → Int32) (x : Nat) : Prop := ∃ i, i < L ∧ mo i = nI x
def zc_G (L u : Nat) (f : Nat → Nat) (cl0 r k : Nat) (F : List Nat) (mo : Nat → Int32) (cl : Nat) : Prop :=
  F.Nodup ∧ (∀ x, x ∈ F → ∃ j, j < u ∧ x = f j) ∧ (∀ i x, F[i]? = some x → mo i = nI x) ∧ cl ≤ cl0 + 2 * F.length ∧
  (r + 1 ≤ F.length ∨ (r ≤ F.length ∧ ∀ j, j < k → zc_on L mo (f j)) ∨ ∀ j, j < u → zc_on L mo (f j))
section ZG
variable {L u cl0 r k : Nat} {f : Nat → Nat} {F : List Nat} {mo mo' : Nat → Int32} {cl cl' : Nat}
theorem zc_Gon (hu : u ≤ 3) (hL : 4 ≤ L) (g : zc_G L u f cl0 r k F mo cl) {x : Nat} (hx : x ∈ F) : zc_on L mo x := by
  obtain ⟨i, hi⟩ := List.getElem?_of_mem hx
  have h1 := zc_nlen g.1 g.2.1
  have h2 : i < F.length := by
    by_cases c : i < F.length
    · exact c
    · rw [List.getElem?_eq_none (by omega)] at hi
      exact nomatch hi
  exact ⟨i, by omega, g.2.2.1 i x hi⟩
/-- already on the belt -/
theorem zc_G0 (g : zc_G L u f cl0 r k F mo cl) (h : zc_on L mo (f k)) : zc_G L u f cl0 r (k + 1) F mo cl := by
  obtain ⟨g1, g2, g3, g4, g5⟩ := g
  refine ⟨g1, g2, g3, g4, ?_⟩
  rcases g5 with z | ⟨z1, z2⟩ | z
  · exact Or.inl z
  · refine Or.inr (Or.inl ⟨z1, fun j hj => ?_⟩)
    by_cases e : j = k
    · rw [e]; exact h
    · exact z2 j (by omega)
  · exact Or.inr (Or.inr z)
/-- filled -/
theorem zc_G1 (hu : u ≤ 3) (hL : 4 ≤ L) (hk : k < u) (g : zc_G L u f cl0 r k F mo cl) (hn : ∀ i, i < L → mo i ≠ nI (f k)) (hm : ∀ i, i < L → mo' i = zm_sh (nI (f k)) mo i) (hc : cl' ≤ cl + 2) : zc_G L u f cl0 r (k + 1) (f k :: F) mo' cl' := by
  have hnot : f k ∉ F := by
    intro hx
    obtain ⟨i, hi, e⟩ := zc_Gon hu hL g hx
    exact hn i hi e
  have hlen := zc_nlen g.1 g.2.1
  obtain ⟨g1, g2, g3, g4, g5⟩ := g
  refine ⟨List.nodup_cons.mpr ⟨hnot, g1⟩, ?_, ?_, ?_, ?_⟩
  · intro x hx
    rcases List.mem_cons.mp hx with e | e
    · exact ⟨k, hk, e⟩
    · exact g2 x e
  · intro i x hx
    cases i with
    | zero =>
      rw [hm 0 (by omega)]
      have : f k = x := by simpa using hx
      rw [this]
      rfl
    | succ i =>
      have hx2 : F[i]? = some x := by simpa using hx
      have h2 : i < F.length := by
        by_cases c : i < F.length
        · exact c
        · rw [List.getElem?_eq_none (by omega)] at hx2
          exact nomatch hx2
      rw [hm (i + 1) (by omega)]
      exact g3 i x hx2
  · rw [List.length_cons]; omega
  · rw [List.length_cons]
    rcases g5 with z | ⟨z1, z2⟩ | z
    · exact Or.inl (by omega)
    · exact Or.inl (by omega)
    · obtain ⟨i, hi, e⟩ := z k hk
      exact absurd e (hn i hi)
theorem zc_Gr (g : zc_G L u f cl0 r u F mo cl) : zc_G L u f cl0 (r + 1) 0 F mo cl := by
  obtain ⟨g1, g2, g3, g4, g5⟩ := g
  refine ⟨g1, g2, g3, g4, ?_⟩
  rcases g5 with z | ⟨_, z2⟩ | z
  · exact Or.inr (Or.inl ⟨z, fun j hj => absurd hj (by omega)⟩)
  · exact Or.inr (Or.inr z2)
  · exact Or.inr (Or.inr z)
theorem zc_Gend (hu : u ≤ 3) (hL : 4 ≤ L) (g : zc_G L u f cl0 3 0 F mo cl) : (∀ j, j < u → zc_on L mo (f j)) ∧ cl ≤ cl0 + 6 := by
  have hlen := zc_nlen g.1 g.2.1
  have g' := g
  obtain ⟨g1, g2, g3, g4, g5⟩ := g
  refine ⟨?_, by omega⟩
  have hall : 3 ≤ F.length → ∀ j, j < u → zc_on L mo (f j) := by
    intro h3 j hj
    by_cases hx : f j ∈ F
    · exact zc_Gon hu hL g' hx
    · have := zc_nlen (F := f j :: F) (u := u) (f := f) (List.nodup_cons.mpr ⟨hx, g1⟩) (fun x hx => by
        rcases List.mem_cons.mp hx with e | e
        · exact ⟨j, hj, e⟩
        · exact g2 x e)
      rw [List.length_cons] at this
      omega
  rcases g5 with z | ⟨z, _⟩ | z
  · exact hall (by omega)
  · exact hall z
  · exact z
end ZG
section ZX
variable {L VC OB nc bc cl ol : Nat} {f_nodeCap f_blockCap f_phase f_place f_last f_result f_fault f_mFill f_mStore f_mHalt f_mJump f_front f_raw f_ids f_homes f_cellCount : Int32} {ops fA fB fC ow kd en et eu ou vl rn co cx cy cz ct cs be cc od us ce mo dn bu : Nat → Int32}
variable {b hv lo : Nat} {pre : Nat → Int32 × Int32 × Int32 × Int32 × Int32} {I : Nat → Bool} {un : Nat → Nat}
theorem zx_gath1 {n r cl0 : Nat} {post : SX → Prop} {J : Int32 → Int32 → Int32 → Int32 → Int32 → Int32 → Int32 → Int32 → Int32 → Int32 → Int32 → Int32 → Int32 → Int32 → Int32 → Int32 → Int32 → Int32 → Int32 → Int32 → Int32 → Int32 → Int32 → Int32 → (Nat → Int32) → (Nat → Int32) → (Nat → Int32) → (Nat → Int32) → (Nat → Int32) → (Nat → Int32) → (Nat → Int32) → (Nat → Int32) → (Nat → Int32) → (Nat → Int32) → (Nat → Int32) → (Nat → Int32) → (Nat → Int32) → (Nat → Int32) → (Nat → Int32) → (Nat → Int32) → (Nat → Int32) → (Nat → Int32) → (Nat → Int32) → (Nat → Int32) → (Nat → Int32) → (Nat → Int32) → (Nat → Int32) → (Nat → Int32) → (Nat → Int32) → (Nat → Int32) → Prop} (hn : n < nc) (K : zc_K L OB VC nc b hv) (hh : hv = OB) (hro : cl0 + 8 ≤ 1024) (ho : zp_OK VC nc ops fA fB fC ow) (hav : ∀ k, k < zp_ar (ops n) → zc_hv VC I (zp_op ops fA fB fC n k) ∧ 0 < un (zp_op ops fA fB fC n k))
    (hJ : ∀ F cl co cx cy cz ct ce mo bu, zc_BI L OB VC nc b hv lo ops fA fB fC ow ou pre I un cl co cx cy cz ct us ce mo bu → zc_G L (zp_ar (ops n)) (zp_op ops fA fB fC n) cl0 r (zp_ar (ops n)) F mo cl → J (nI (r + 1)) (nI L) f_nodeCap f_blockCap (nI VC) (nI OB) (nI nc) (nI bc) f_phase f_place f_last f_result f_fault f_mFill f_mStore f_mHalt f_mJump (nI cl) f_front f_raw f_ids f_homes f_cellCount (nI ol) ops fA fB fC ow kd en et eu ou vl rn co cx cy cz ct cs be cc od us ce mo dn bu) :
    ∀ e k, k + e = zp_ar (ops n) → ∀ (F : List Nat) (cl : Nat) (co cx cy cz ct ce mo bu : Nat → Int32), zc_BI L OB VC nc b hv lo ops fA fB fC ow ou pre I un cl co cx cy cz ct us ce mo bu → zc_G L (zp_ar (ops n)) (zp_op ops fA fB fC n) cl0 r k F mo cl → wX_gather_10 post J (nI n) (nI (zp_ar (ops n))) (nI r) (e + 1) (nI k) (nI L) f_nodeCap f_blockCap (nI VC) (nI OB) (nI nc) (nI bc) f_phase f_place f_last f_result f_fault f_mFill f_mStore f_mHalt f_mJump (nI cl) f_front f_raw f_ids f_homes f_cellCount (nI ol) ops fA fB fC ow kd en et eu ou vl rn co cx cy cz ct cs be cc od us ce mo dn bu := by
  have h3 := zp_ar3 (ops n)
  have K' := K
  obtain ⟨k1, k2, k3, k4, k5, k6, k7, k8⟩ := K'
  intro e
  induction e with
  | zero =>
    intro k hk F cl co cx cy cz ct ce mo bu B g
    refine br_t (nI_le (by omega) (by omega)) (nm_r (nI_1 r) (hJ F _ _ _ _ _ _ _ _ _ B ?_))
    rw [show k = zp_ar (ops n) by omega] at g
    exact g
  | succ e ih =>
    intro k hk F cl co cx cy cz ct ce mo bu B g
    obtain ⟨h1, h2, _⟩ := ho n hn k (by omega)
    have hlen := zc_nlen g.1 g.2.1
    refine br_f (nI_ge (by omega) (by omega)) (zx_opId (by omega) (by omega) ?_)
    rw [h1]
    refine zx_fetch (I := I) (un := un) h2 B K (by have := g.2.2.2.1; omega) (hav k (by omega)).1 (hav k (by omega)).2 (fun z => by have := z.1; have := z.2.1; omega) ?_ ?_
    · intro hon
      exact nm_r (nI_1 k) (ih (k + 1) (by omega) F _ _ _ _ _ _ _ _ _ B (zc_G0 g hon))
    · intro cl1 co1 cx1 cy1 cz1 ct1 ce1 mo1 bu1 hl1 hl2 B1 hno hmo
      exact nm_r (nI_1 k) (ih (k + 1) (by omega) _ _ _ _ _ _ _ _ _ _ B1 (zc_G1 (by omega) k1 (by omega) g hno hmo hl2))
theorem zx_gather {n : Nat} {post : SX → Prop} (B : zc_BI L OB VC nc b hv lo ops fA fB fC ow ou pre I un cl co cx cy cz ct us ce mo bu) (hn : n < nc) (K : zc_K L OB VC nc b hv) (hh : hv = OB) (hro : cl + 8 ≤ 1024) (ho : zp_OK VC nc ops fA fB fC ow) (hav : ∀ k, k < zp_ar (ops n) → zc_hv VC I (zp_op ops fA fB fC n k) ∧ 0 < un (zp_op ops fA fB fC n k))
    (h : ∀ cl1 co1 cx1 cy1 cz1 ct1 ce1 mo1 bu1, zc_BI L OB VC nc b hv lo ops fA fB fC ow ou pre I un cl1 co1 cx1 cy1 cz1 ct1 us ce1 mo1 bu1 → cl1 ≤ cl + 6 → (∀ j, j < zp_ar (ops n) → zc_on L mo1 (zp_op ops fA fB fC n j)) → post ((nI L), f_nodeCap, f_blockCap, (nI VC), (nI OB), (nI nc), (nI bc), f_phase, f_place, f_last, f_result, f_fault, f_mFill, f_mStore, f_mHalt, f_mJump, (nI cl1), f_front, f_raw, f_ids, f_homes, f_cellCount, (nI ol), ops, fA, fB, fC, ow, kd, en, et, eu, ou, vl, rn, co1, cx1, cy1, cz1, ct1, cs, be, cc, od, us, ce1, mo1, dn, bu1)) : wpX_gather post ((nI L), f_nodeCap, f_blockCap, (nI VC), (nI OB), (nI nc), (nI bc), f_phase, f_place, f_last, f_result, f_fault, f_mFill, f_mStore, f_mHalt, f_mJump, (nI cl), f_front, f_raw, f_ids, f_homes, f_cellCount, (nI ol), ops, fA, fB, fC, ow, kd, en, et, eu, ou, vl, rn, co, cx, cy, cz, ct, cs, be, cc, od, us, ce, mo, dn, bu) (nI n) (nI (zp_ar (ops n))) := by
  have h3 := zp_ar3 (ops n)
  have K' := K
  obtain ⟨k1, k2, k3, k4, k5, k6, k7, k8⟩ := K'
  have key : ∀ e r, r + e = 3 → ∀ (F : List Nat) (cl1 : Nat) (co1 cx1 cy1 cz1 ct1 ce1 mo1 bu1 : Nat → Int32), zc_BI L OB VC nc b hv lo ops fA fB fC ow ou pre I un cl1 co1 cx1 cy1 cz1 ct1 us ce1 mo1 bu1 → zc_G L (zp_ar (ops n)) (zp_op ops fA fB fC n) cl r 0 F mo1 cl1 → wX_gather_2 post (nI n) (nI (zp_ar (ops n))) (e + 1) (nI r) (nI L) f_nodeCap f_blockCap (nI VC) (nI OB) (nI nc) (nI bc) f_phase f_place f_last f_result f_fault f_mFill f_mStore f_mHalt f_mJump (nI cl1) f_front f_raw f_ids f_homes f_cellCount (nI ol) ops fA fB fC ow kd en et eu ou vl rn co1 cx1 cy1 cz1 ct1 cs be cc od us ce1 mo1 dn bu1 := by
    intro e
    induction e with
    | zero =>
      intro r hr F cl1 co1 cx1 cy1 cz1 ct1 ce1 mo1 bu1 B1 g
      obtain rfl : r = 3 := by omega
      obtain ⟨g1, g2⟩ := zc_Gend h3 k1 g
      exact br_t (nI_le (a := 3) (b := 3) (by omega) (by decide)) (h _ _ _ _ _ _ _ _ _ B1 g2 g1)
    | succ e ih =>
      intro r hr F cl1 co1 cx1 cy1 cz1 ct1 ce1 mo1 bu1 B1 g
      refine br_f (nI_ge (b := 3) (by omega) (by decide)) ⟨_, zx_gath1 (post := post) (r := r) (cl0 := cl) hn K hh hro ho hav ?_ (zp_ar (ops n)) 0 (by omega) F cl1 co1 cx1 cy1 cz1 ct1 ce1 mo1 bu1 B1 g⟩
      intro F2 cl2 co2 cx2 cy2 cz2 ct2 ce2 mo2 bu2 B2 g2
      exact ih (r + 1) (by omega) F2 _ _ _ _ _ _ _ _ _ B2 (zc_Gr g2)
  refine ⟨4, key 3 0 (by omega) [] _ _ _ _ _ _ _ _ _ B ⟨List.nodup_nil, fun x hx => absurd hx (List.not_mem_nil), fun i x hx => ?_, by simp, Or.inr (Or.inl ⟨by simp, fun j hj => absurd hj (by omega)⟩)⟩⟩
  simp at hx
end ZX
end
section
/-! rescue and its questions, distance -/
section ZX
variable {L VC OB nc bc cl ol : Nat} {f_nodeCap f_blockCap f_phase f_place f_last f_result f_fault f_mFill f_mStore f_mHalt f_mJump f_front f_raw f_ids f_homes f_cellCount : Int32} {ops fA fB fC ow kd en et eu ou vl rn co cx cy cz ct cs be cc od us ce mo dn bu : Nat → Int32}
variable {b hv lo : Nat} {pre : Nat → Int32 × Int32 × Int32 × Int32 × Int32} {I : Nat → Bool} {un : Nat → Nat}
def zc_od (ol : Nat) (od : Nat → Int32) : Prop := ol ≤ 32 ∧ ∀ i, i < ol → zb_IN (od i) 32
theorem zx_need1 {post : Int32 → Prop} {J : Int32 → Prop} {p s : Int32} {i n : Nat} (hi : i < 32) (hn : n < 32) (he : od i = nI n) (h1 : post 1) (hJ : J (nI (i + 1))) : ∀ e k, k + e = zp_ar (ops n) → wX_neededSoon_42 post J p s (nI i) (nI (zp_ar (ops n))) (nI L) f_nodeCap f_blockCap (nI VC) (nI OB) (nI nc) (nI bc) f_phase f_place f_last f_result f_fault f_mFill f_mStore f_mHalt f_mJump (nI cl) f_front f_raw f_ids f_homes f_cellCount (nI ol) ops fA fB fC ow kd en et eu ou vl rn co cx cy cz ct cs be cc od us ce mo dn bu (e + 1) (nI k) := by
  have h3 := zp_ar3 (ops n)
  intro e
  induction e with
  | zero =>
    intro k hk
    exact br_t (nI_le (by omega) (by omega)) (nm_r (nI_1 i) hJ)
  | succ e ih =>
    intro k hk
    refine br_f (nI_ge (by omega) (by omega)) (And.intro (vp_in_nI hi (by decide)) ?_)
    rw [nI_clamp (show i < 2 ^ 31 by omega), he]
    exact zx_opId hn (by omega) (br_c (fun _ => h1) (fun _ => nm_r (nI_1 k) (ih (k + 1) (by omega))))
theorem zx_need {post : Int32 → Prop} {p : Int32} {s : Nat} (hs : s < 32) (h12 : L ≤ 12) (hod : zc_od ol od) (h0 : post 0) (h1 : post 1) : wpX_neededSoon post ((nI L), f_nodeCap, f_blockCap, (nI VC), (nI OB), (nI nc), (nI bc), f_phase, f_place, f_last, f_result, f_fault, f_mFill, f_mStore, f_mHalt, f_mJump, (nI cl), f_front, f_raw, f_ids, f_homes, f_cellCount, (nI ol), ops, fA, fB, fC, ow, kd, en, et, eu, ou, vl, rn, co, cx, cy, cz, ct, cs, be, cc, od, us, ce, mo, dn, bu) p (nI s) := by
  obtain ⟨ho1, ho2⟩ := hod
  have h79 : wX_neededSoon_79 post (nI s) (nI L) f_nodeCap f_blockCap (nI VC) (nI OB) (nI nc) (nI bc) f_phase f_place f_last f_result f_fault f_mFill f_mStore f_mHalt f_mJump (nI cl) f_front f_raw f_ids f_homes f_cellCount (nI ol) ops fA fB fC ow kd en et eu ou vl rn co cx cy cz ct cs be cc od us ce mo dn bu := br_c (fun _ => h0) (fun _ => h1)
  have key : ∀ e i, i + e = 64 → wX_neededSoon_4 post p (nI s) (nI L) f_nodeCap f_blockCap (nI VC) (nI OB) (nI nc) (nI bc) f_phase f_place f_last f_result f_fault f_mFill f_mStore f_mHalt f_mJump (nI cl) f_front f_raw f_ids f_homes f_cellCount (nI ol) ops fA fB fC ow kd en et eu ou vl rn co cx cy cz ct cs be cc od us ce mo dn bu (e + 1) (nI i) := by
    intro e
    induction e with
    | zero =>
      intro i hi
      exact pk_le (s + L) i (fun _ => h79) (fun z => absurd z (by omega)) (nI_add s L)
    | succ e ih =>
      intro i hi
      refine pk_le (s + L) i (fun _ => h79) (fun z => pk_le ol i (fun _ => h79) (fun z2 => ?_)) (nI_add s L)
      obtain ⟨n, hn, he⟩ := ho2 i z2
      have hi2 : vp_in (nI i) 32 := vp_in_nI (by omega) (by decide)
      refine And.intro hi2 ?_
      rw [nI_clamp (show i < 2 ^ 31 by omega), he, nI_clamp (show n < 2 ^ 31 by omega)]
      exact And.intro (vp_in_nI hn (by decide)) (zx_ar ⟨_, zx_need1 (by omega) hn he h1 (ih (i + 1) (by omega)) (zp_ar (ops n)) 0 (by omega)⟩)
  exact nm_r (nI_1 s) ⟨_, key (63 - s) (s + 1) (by omega)⟩
theorem zx_worth {un : Nat → Nat} {s : Nat} {post : Int32 → Prop} (h4 : 4 ≤ L) (h12 : L ≤ 12) (hs : s < 32) (hod : zc_od ol od) (hm : ∀ i, i < L → mo i = -1 ∨ zb_IN (mo i) 38) (hu : ∀ id, id < 38 → us id = nI (un id) ∧ un id ≤ 200) (h0 : post 0) (h1 : zc_rk mo un ce (L - 1) → post 1) : wpX_worthRescue post ((nI L), f_nodeCap, f_blockCap, (nI VC), (nI OB), (nI nc), (nI bc), f_phase, f_place, f_last, f_result, f_fault, f_mFill, f_mStore, f_mHalt, f_mJump, (nI cl), f_front, f_raw, f_ids, f_homes, f_cellCount, (nI ol), ops, fA, fB, fC, ow, kd, en, et, eu, ou, vl, rn, co, cx, cy, cz, ct, cs, be, cc, od, us, ce, mo, dn, bu) (nI s) := by
  have e : nI L - 1 = nI (L - 1) := bz_sub1 (by omega)
  unfold wpX_worthRescue
  dsimp only
  rw [e]
  refine zx_atRisk (un := un) h12 (by omega) (hm _ (by omega)) hu (fun hr => br_f (by decide) ?_) (fun _ => br_t rfl h0)
  have key : ∀ d i (x : Int32), i + d = L → wX_worthRescue_19 post (nI s) (nI L) f_nodeCap f_blockCap (nI VC) (nI OB) (nI nc) (nI bc) f_phase f_place f_last f_result f_fault f_mFill f_mStore f_mHalt f_mJump (nI cl) f_front f_raw f_ids f_homes f_cellCount (nI ol) ops fA fB fC ow kd en et eu ou vl rn co cx cy cz ct cs be cc od us ce mo dn bu (d + 1) x (nI i) := by
    intro d
    induction d with
    | zero =>
      intro i x hi
      refine br_t (nI_le (by omega) (by omega)) (br_c (fun _ => h0) (fun _ => And.intro ?_ (zx_need hs h12 hod (br_t rfl h0) (br_f (by decide) (h1 hr)))))
      rw [e]
      exact vp_in_nI (by omega) (by decide)
    | succ d ih =>
      intro i x hi
      refine br_f (nI_ge (by omega) (by omega)) (zx_atRisk (un := un) h12 (by omega) (hm _ (by omega)) hu (fun _ => br_f (by decide) (nm_e (nm_r (nI_1 i) (ih (i + 1) _ (by omega))))) (fun _ => br_t rfl (nm_r (nI_1 i) (ih (i + 1) _ (by omega)))))
  exact ⟨_, key L 0 0 (by omega)⟩
theorem zx_rescue {s : Nat} {post : SX → Prop} (hs : s < 32) (hod : zc_od ol od) (B : zc_BI L OB VC nc b hv lo ops fA fB fC ow ou pre I un cl co cx cy cz ct us ce mo bu) (K : zc_K L OB VC nc b hv) (hcl : cl + 12 ≤ 1024)
    (h : ∀ cl1 co1 cx1 cy1 cz1 ct1 mo1, zc_BI L OB VC nc b hv lo ops fA fB fC ow ou pre I un cl1 co1 cx1 cy1 cz1 ct1 us ce mo1 bu → cl1 ≤ cl + 12 → (∀ x, zc_on L mo x → zc_on L mo1 x) → post ((nI L), f_nodeCap, f_blockCap, (nI VC), (nI OB), (nI nc), (nI bc), f_phase, f_place, f_last, f_result, f_fault, f_mFill, f_mStore, f_mHalt, f_mJump, (nI cl1), f_front, f_raw, f_ids, f_homes, f_cellCount, (nI ol), ops, fA, fB, fC, ow, kd, en, et, eu, ou, vl, rn, co1, cx1, cy1, cz1, ct1, cs, be, cc, od, us, ce, mo1, dn, bu)) : wpX_rescue post ((nI L), f_nodeCap, f_blockCap, (nI VC), (nI OB), (nI nc), (nI bc), f_phase, f_place, f_last, f_result, f_fault, f_mFill, f_mStore, f_mHalt, f_mJump, (nI cl), f_front, f_raw, f_ids, f_homes, f_cellCount, (nI ol), ops, fA, fB, fC, ow, kd, en, et, eu, ou, vl, rn, co, cx, cy, cz, ct, cs, be, cc, od, us, ce, mo, dn, bu) (nI s) := by
  obtain ⟨k1, k2, k3, k4, k5, k6, k7, k8⟩ := K
  have e : nI L - 1 = nI (L - 1) := bz_sub1 (by omega)
  have key : ∀ d i, i + d = L → ∀ cl1 co1 cx1 cy1 cz1 ct1 mo1, zc_BI L OB VC nc b hv lo ops fA fB fC ow ou pre I un cl1 co1 cx1 cy1 cz1 ct1 us ce mo1 bu → cl1 ≤ cl + i → (∀ x, zc_on L mo x → zc_on L mo1 x) → wX_rescue_2 post (nI s) (d + 1) (nI i) (nI L) f_nodeCap f_blockCap (nI VC) (nI OB) (nI nc) (nI bc) f_phase f_place f_last f_result f_fault f_mFill f_mStore f_mHalt f_mJump (nI cl1) f_front f_raw f_ids f_homes f_cellCount (nI ol) ops fA fB fC ow kd en et eu ou vl rn co1 cx1 cy1 cz1 ct1 cs be cc od us ce mo1 dn bu := by
    intro d
    induction d with
    | zero =>
      intro i hi cl1 co1 cx1 cy1 cz1 ct1 mo1 B1 hl hon
      exact br_t (nI_le (by omega) (by omega)) (h _ _ _ _ _ _ _ B1 (by omega) hon)
    | succ d ih =>
      intro i hi cl1 co1 cx1 cy1 cz1 ct1 mo1 B1 hl hon
      refine br_f (nI_ge (by omega) (by omega)) (zx_worth (un := un) k1 k2 hs hod B1.2.2.2.1 B1.2.2.2.2.2.1 (br_t rfl (h _ _ _ _ _ _ _ B1 (by omega) hon)) ?_)
      rintro ⟨id, hid, hm, _⟩
      refine br_f (by decide) ?_
      rw [e, nI_clamp (show L - 1 < 2 ^ 31 by omega)]
      refine And.intro (vp_in_nI (by omega) (by decide)) (nm_r hm (zx_emit (by omega) (zx_push (by omega) k2 (fun mo2 hmo => nm_r (nI_1 i) (ih (i + 1) (by omega) _ _ _ _ _ _ _ ?_ (by omega) ?_)))))
      · refine zc_Tdrop B1 k1 ?_ hid (by decide) ⟨Or.inr (Or.inr (Or.inr ⟨⟨1, by omega, by omega, rfl⟩, zb_INof (by omega), ⟨0, by omega, rfl⟩, ⟨0, by omega, rfl⟩⟩)), Or.inl rfl⟩ ?_ (Or.inl ⟨rfl, rfl⟩) hmo
        · intro id' hid' hne hm'
          exact absurd (bz_inj (hm'.symm.trans hm) (by omega) (by omega)) hne
        · intro V m0 m _ hS
          show m.1 (nI (L - 1)).toNatClampNeg = V id
          rw [nI_clamp (by omega)]
          exact hS.1 (L - 1) (by omega) id hid hm
      · intro x hx
        obtain ⟨j, hj, hx2⟩ := hon x hx
        by_cases c : j = L - 1
        · refine ⟨0, by omega, ?_⟩
          rw [hmo 0 (by omega)]
          show nI id = nI x
          rw [← hx2, c, hm]
        · refine ⟨j + 1, by omega, ?_⟩
          rw [hmo (j + 1) (by omega)]
          exact hx2
  exact ⟨_, key L 0 (by omega) _ _ _ _ _ _ _ B (by omega) (fun _ z => z)⟩
theorem zx_dist {n k u : Nat} {post : Int32 → Prop} (hn : n < 32) (hk3 : k < 3) (hu : u ≤ 3) (h12 : L ≤ 12) (ho : k < u → zp_opI ops fA fB fC n k = nI (zp_op ops fA fB fC n k)) (hon : k < u → zc_on L mo (zp_op ops fA fB fC n k)) (h1 : k < u → ∀ i, i < L → mo i = nI (zp_op ops fA fB fC n k) → post (nI i)) (h0 : u ≤ k → post 0) : wpX_distance post ((nI L), f_nodeCap, f_blockCap, (nI VC), (nI OB), (nI nc), (nI bc), f_phase, f_place, f_last, f_result, f_fault, f_mFill, f_mStore, f_mHalt, f_mJump, (nI cl), f_front, f_raw, f_ids, f_homes, f_cellCount, (nI ol), ops, fA, fB, fC, ow, kd, en, et, eu, ou, vl, rn, co, cx, cy, cz, ct, cs, be, cc, od, us, ce, mo, dn, bu) (nI n) (nI k) (nI u) := by
  refine pk_lt k u (fun hk => zx_opId hn hk3 ?_) (fun hk => h0 hk)
  rw [ho hk]
  refine zx_find h12 (fun r hr => ?_)
  rcases hr with ⟨rfl, hr⟩ | ⟨i, hi, rfl, hm, _⟩
  · obtain ⟨i, hi, e⟩ := hon hk
    exact absurd e (hr i hi)
  · exact br_f (bz_n1 (by omega)) (h1 hk i hi hm)
end ZX
end
section
/-! one node issued -/
section ZX
variable {L VC OB nc bc cl ol : Nat} {f_nodeCap f_blockCap f_phase f_place f_last f_result f_fault f_mFill f_mStore f_mHalt f_mJump f_front f_raw f_ids f_homes f_cellCount : Int32} {ops fA fB fC ow kd en et eu ou vl rn co cx cy cz ct cs be cc od us ce mo dn bu : Nat → Int32}
variable {b hv lo : Nat} {pre : Nat → Int32 × Int32 × Int32 × Int32 × Int32} {I : Nat → Bool} {un : Nat → Nat}
theorem zx_iss147 {n : Nat} {post : SX → Prop} (hn : n < nc) (K : zc_K L OB VC nc b hv) (ho : zp_OK VC nc ops fA fB fC ow) (h : ∀ ce1 bu1, zc_BI L OB VC nc b hv lo ops fA fB fC ow ou pre I un cl co cx cy cz ct us ce1 mo bu1 → post ((nI L), f_nodeCap, f_blockCap, (nI VC), (nI OB), (nI nc), (nI bc), f_phase, f_place, f_last, f_result, f_fault, f_mFill, f_mStore, f_mHalt, f_mJump, (nI cl), f_front, f_raw, f_ids, f_homes, f_cellCount, (nI ol), ops, fA, fB, fC, ow, kd, en, et, eu, ou, vl, rn, co, cx, cy, cz, ct, cs, be, cc, od, us, ce1, mo, dn, bu1)) : ∀ e k, k + e = zp_ar (ops n) → ∀ ce1 bu1, zc_BI L OB VC nc b hv lo ops fA fB fC ow ou pre I un cl co cx cy cz ct us ce1 mo bu1 → wX_issue_147 post (nI n) (nI (zp_ar (ops n))) (e + 1) (nI k) (nI L) f_nodeCap f_blockCap (nI VC) (nI OB) (nI nc) (nI bc) f_phase f_place f_last f_result f_fault f_mFill f_mStore f_mHalt f_mJump (nI cl) f_front f_raw f_ids f_homes f_cellCount (nI ol) ops fA fB fC ow kd en et eu ou vl rn co cx cy cz ct cs be cc od us ce1 mo dn bu1 := by
  have h3 := zp_ar3 (ops n)
  have K' := K
  obtain ⟨k1, k2, k3, k4, k5, k6, k7, k8⟩ := K'
  intro e
  induction e with
  | zero =>
    intro k hk ce1 bu1 B
    exact br_t (nI_le (by omega) (by omega)) (h _ _ B)
  | succ e ih =>
    intro k hk ce1 bu1 B
    obtain ⟨h1, h2, _⟩ := ho n hn k (by omega)
    refine br_f (nI_ge (by omega) (by omega)) (zx_opId (by omega) (by omega) ?_)
    rw [h1]
    exact zx_release h2 B K (fun ce2 bu2 B2 => nm_r (nI_1 k) (ih (k + 1) (by omega) ce2 bu2 B2))
/-- the drop of node n's value, by any instruction, and what follows -/
theorem zx_iss139 {n : Nat} {post : SX → Prop} {op x y z : Int32} (B : zc_BI L OB VC nc b hv lo ops fA fB fC ow ou pre I un cl co cx cy cz ct us ce mo bu) (SF : zc_SF L VC I un mo ce n) (hn : n < nc) (K : zc_K L OB VC nc b hv) (ho : zp_OK VC nc ops fA fB fC ow) (hcl : cl < 1024) (h17 : op ≠ 17) (hi : zm_okI L op x y z (nI n))
    (hr : ∀ (V : Nat → Int32) (m0 m : zm_M), zm_Eq ops fA fB fC ow nc b V → zm_Sv L OB b hv ou mo ce I V m0 m → zm_res op x y z m = V n)
    (h : ∀ cl1 co1 cx1 cy1 cz1 ct1 ce1 mo1 bu1, zc_BI L OB VC nc b hv lo ops fA fB fC ow ou pre (fun j => if j = n then true else I j) un cl1 co1 cx1 cy1 cz1 ct1 us ce1 mo1 bu1 → cl1 ≤ cl + 1 → post ((nI L), f_nodeCap, f_blockCap, (nI VC), (nI OB), (nI nc), (nI bc), f_phase, f_place, f_last, f_result, f_fault, f_mFill, f_mStore, f_mHalt, f_mJump, (nI cl1), f_front, f_raw, f_ids, f_homes, f_cellCount, (nI ol), ops, fA, fB, fC, ow, kd, en, et, eu, ou, vl, rn, co1, cx1, cy1, cz1, ct1, cs, be, cc, od, us, ce1, mo1, dn, bu1)) :
    wX_issue_139 post (nI n) (nI (zp_ar (ops n))) (nI L) f_nodeCap f_blockCap (nI VC) (nI OB) (nI nc) (nI bc) f_phase f_place f_last f_result f_fault f_mFill f_mStore f_mHalt f_mJump (nI (cl + 1)) f_front f_raw f_ids f_homes f_cellCount (nI ol) ops fA fB fC ow kd en et eu ou vl rn (upd co cl op) (upd cx cl x) (upd cy cl y) (upd cz cl z) (upd ct cl (nI n)) cs be cc od us ce mo dn bu := by
  have K' := K
  obtain ⟨k1, k2, k3, k4, k5, k6, k7, k8⟩ := K'
  refine zx_push (by omega) k2 (fun mo1 hmo => ?_)
  have B1 := zc_Tdrop B k1 SF (by omega) h17 hi hr (Or.inr ⟨rfl, rfl⟩) hmo
  exact ⟨_, zx_iss147 hn K ho (fun ce1 bu1 B2 => h _ _ _ _ _ _ _ _ _ B2 (by omega)) (zp_ar (ops n)) 0 (by omega) _ _ B1⟩
theorem zx_iss27 {n s : Nat} {post : SX → Prop} (B : zc_BI L OB VC nc b hv lo ops fA fB fC ow ou pre I un cl co cx cy cz ct us ce mo bu) (hn : n < nc) (hb : ow n = nI b) (K : zc_K L OB VC nc b hv) (hh : hv = OB) (hcl : cl + 14 ≤ 1024) (ho : zp_OK VC nc ops fA fB fC ow) (hw : ∀ n, n < nc → ∃ j, j < 16 ∧ ops n = nI j) (hs : s < 32) (hod : zc_od ol od)
    (hoc : ∀ id, id < 38 → zc_oc ops fA fB fC n id (zp_ar (ops n)) ≤ un id)
    (hon : ¬ ops n ≤ 1 → ∀ k, k < zp_ar (ops n) → zc_on L mo (zp_op ops fA fB fC n k))
    (hin : ops n = 1 → zc_on L mo (zp_op ops fA fB fC n 0) ∨ ce (zp_op ops fA fB fC n 0) ≠ -1)
    (h : ∀ cl1 co1 cx1 cy1 cz1 ct1 us1 ce1 mo1 bu1, zc_BI L OB VC nc b hv lo ops fA fB fC ow ou pre (fun j => if j = n then true else I j) (fun id => un id - zc_oc ops fA fB fC n id (zp_ar (ops n))) cl1 co1 cx1 cy1 cz1 ct1 us1 ce1 mo1 bu1 → cl1 ≤ cl + 14 → post ((nI L), f_nodeCap, f_blockCap, (nI VC), (nI OB), (nI nc), (nI bc), f_phase, f_place, f_last, f_result, f_fault, f_mFill, f_mStore, f_mHalt, f_mJump, (nI cl1), f_front, f_raw, f_ids, f_homes, f_cellCount, (nI ol), ops, fA, fB, fC, ow, kd, en, et, eu, ou, vl, rn, co1, cx1, cy1, cz1, ct1, cs, be, cc, od, us1, ce1, mo1, dn, bu1)) :
    wX_issue_27 post (nI n) (nI s) (nI (zp_ar (ops n))) (nI L) f_nodeCap f_blockCap (nI VC) (nI OB) (nI nc) (nI bc) f_phase f_place f_last f_result f_fault f_mFill f_mStore f_mHalt f_mJump (nI cl) f_front f_raw f_ids f_homes f_cellCount (nI ol) ops fA fB fC ow kd en et eu ou vl rn co cx cy cz ct cs be cc od us ce mo dn bu := by
  have h3 := zp_ar3 (ops n)
  have K' := K
  obtain ⟨k1, k2, k3, k4, k5, k6, k7, k8⟩ := K'
  have hn32 : n < 32 := by omega
  have hin32 : vp_in (nI n) 32 := vp_in_nI hn32 (by decide)
  have hcn : (nI n).toNatClampNeg = n := nI_clamp (by omega)
  unfold wX_issue_27
  refine zx_addUses hn32 (fun k hk => ⟨(ho n hn k hk).1, (ho n hn k hk).2.1⟩) ?_
  have hus := zc_auM (n := n) (fun id hid => (B.2.2.2.2.2.1 id hid).1) (zp_ar (ops n)) (fun j hj => (ho n hn j hj).2.1) hoc
  have B1 := zc_Tuse B (un' := fun id => un id - zc_oc ops fA fB fC n id (zp_ar (ops n))) (fun id _ => Nat.sub_le _ _) hus
  refine zx_rescue hs hod B1 K (by omega) ?_
  intro cl2 co2 cx2 cy2 cz2 ct2 mo2 B2 hl2 hon2
  refine zx_save B2 K (by omega) ?_
  intro cl3 co3 cx3 cy3 cz3 ct3 ce3 bu3 hl3 hl4 B3 SF hk
  dsimp only
  rw [hcn]
  refine And.intro hin32 (br_c (fun e0 => And.intro hin32 (zx_emit (by omega) ?_)) (fun e0 => And.intro hin32 (br_c (fun e1 => And.intro hin32 ?_) (fun e1 => ?_))))
  · refine zx_iss139 B3 (SF n) hn K ho (by omega) (by decide) ⟨Or.inl rfl, Or.inr (zb_INof hn32)⟩ ?_ (fun cl4 co4 cx4 cy4 cz4 ct4 ce4 mo4 bu4 B4 hl => h _ _ _ _ _ _ _ _ _ _ B4 (by omega))
    intro V m0 m hV _
    rw [hV n hn hb]
    unfold zp_val
    rw [if_pos e0]
    rfl
  · have ha : zp_ar (ops n) = 1 := by rw [e1]; decide
    obtain ⟨p1, p2, p3, _⟩ := ho n hn 0 (by omega)
    have p1' : zp_opI ops fA fB fC n 0 = 32 + fA n := if_pos e1
    rw [← p1', p1]
    refine zx_copy (I := I) p2 (Or.inr (zb_INof hn32)) K (by omega) B3.2.2.2.2.1 ?_ (fun z => by have := z.1; have := z.2.1; omega) ?_
    · rcases hin e1 with z | z
      · exact Or.inl (hon2 _ z)
      · exact Or.inr (hk _ p2 z)
    · intro op x h17 hok hres
      refine zx_iss139 B3 (SF n) hn K ho (by omega) h17 hok ?_ (fun cl4 co4 cx4 cy4 cz4 ct4 ce4 mo4 bu4 B4 hl => h _ _ _ _ _ _ _ _ _ _ B4 (by omega))
      intro V m0 m hV hS
      rw [hres V m0 m hV hS, hV n hn hb]
      unfold zp_val
      rw [if_neg e0, if_pos e1]
  · obtain ⟨j, hj, ej⟩ := hw n hn
    have hj2 : 2 ≤ j := by
      by_cases c0 : j = 0
      · rw [c0] at ej; exact absurd ej e0
      · by_cases c1 : j = 1
        · rw [c1] at ej; exact absurd ej e1
        · omega
    have hgt : ¬ ops n ≤ 1 := by
      rw [ej]
      exact nI_ge (a := 1) (by omega) (by omega)
    have hpos : 0 < zp_ar (ops n) := by
      unfold zp_ar
      rw [if_neg e0]
      exact (zp_fu1 _).1
    have hon3 : ∀ k, k < zp_ar (ops n) → zc_on L mo2 (zp_op ops fA fB fC n k) := fun k hk => hon2 _ (hon hgt k hk)
    have hop : ∀ k, k < zp_ar (ops n) → zp_opI ops fA fB fC n k = nI (zp_op ops fA fB fC n k) := fun k hk => (ho n hn k hk).1
    have fin : ∀ x y z : Nat, x < L → y < L → z < L → mo2 x = nI (zp_op ops fA fB fC n 0) → (1 < zp_ar (ops n) → mo2 y = nI (zp_op ops fA fB fC n 1)) → (2 < zp_ar (ops n) → mo2 z = nI (zp_op ops fA fB fC n 2)) → wX_issue_139 post (nI n) (nI (zp_ar (ops n))) (nI L) f_nodeCap f_blockCap (nI VC) (nI OB) (nI nc) (nI bc) f_phase f_place f_last f_result f_fault f_mFill f_mStore f_mHalt f_mJump (nI (cl3 + 1)) f_front f_raw f_ids f_homes f_cellCount (nI ol) ops fA fB fC ow kd en et eu ou vl rn (upd co3 cl3 (ops n)) (upd cx3 cl3 (nI x)) (upd cy3 cl3 (nI y)) (upd cz3 cl3 (nI z)) (upd ct3 cl3 (nI n)) cs be cc od (zc_au ops fA fB fC (-1) n (zp_ar (ops n)) us) ce3 mo2 dn bu3 := by
      intro x y z hx hy hz mx my mz
      refine zx_iss139 B3 (SF n) hn K ho (by omega) ?_ ⟨Or.inr (Or.inr (Or.inr ⟨⟨j, by omega, hj, ej⟩, zb_INof hx, zb_INof hy, zb_INof hz⟩)), Or.inr (zb_INof hn32)⟩ ?_ (fun cl4 co4 cx4 cy4 cz4 ct4 ce4 mo4 bu4 B4 hl => h _ _ _ _ _ _ _ _ _ _ B4 (by omega))
      · rw [ej]
        intro e
        have := bz_inj (b := 17) e (by omega) (by omega)
        omega
      · intro V m0 m hV hS
        rw [hV n hn hb]
        unfold zp_val zm_res
        have e16 : ¬ ops n = 16 := by
          rw [ej]
          intro e
          have := bz_inj (b := 16) e (by omega) (by omega)
          omega
        rw [if_neg e0, if_neg e1, if_neg e0, if_neg e16, if_neg e1, nI_clamp (show x < 2 ^ 31 by omega), nI_clamp (show y < 2 ^ 31 by omega), nI_clamp (show z < 2 ^ 31 by omega)]
        exact zp_aluc (hw n hn) e0 e1 (hS.1 x hx _ (ho n hn 0 hpos).2.1 mx) (fun c => hS.1 y hy _ (ho n hn 1 c).2.1 (my c)) (fun c => hS.1 z hz _ (ho n hn 2 c).2.1 (mz c))
    refine zx_dist (k := 0) hn32 (by omega) h3 k2 (hop 0) (hon3 0) (fun _ x hx mx => ?_) (fun z => absurd z (by omega))
    refine zx_dist (k := 1) hn32 (by omega) h3 k2 (hop 1) (hon3 1) (fun c1 y hy my => ?_) (fun c1 => ?_)
    · refine zx_dist (k := 2) hn32 (by omega) h3 k2 (hop 2) (hon3 2) (fun c2 z hz mz => ?_) (fun c2 => ?_)
      · exact And.intro hin32 (zx_emit (by omega) (fin x y z hx hy hz mx (fun _ => my) (fun _ => mz)))
      · exact And.intro hin32 (zx_emit (by omega) (fin x y 0 hx hy (by omega) mx (fun _ => my) (fun c => absurd c (by omega))))
    · refine zx_dist (k := 2) hn32 (by omega) h3 k2 (hop 2) (hon3 2) (fun c2 z hz mz => absurd c2 (by omega)) (fun c2 => ?_)
      exact And.intro hin32 (zx_emit (by omega) (fin x 0 0 hx (by omega) (by omega) mx (fun c => absurd c (by omega)) (fun c => absurd c (by omega))))
theorem zx_issue {n s : Nat} {post : SX → Prop} (B : zc_BI L OB VC nc b hv lo ops fA fB fC ow ou pre I un cl co cx cy cz ct us ce mo bu) (hn : n < nc) (hb : ow n = nI b) (K : zc_K L OB VC nc b hv) (hh : hv = OB) (hcl : cl + 20 ≤ 1024) (ho : zp_OK VC nc ops fA fB fC ow) (hw : ∀ n, n < nc → ∃ j, j < 16 ∧ ops n = nI j) (hs : s < 32) (hod : zc_od ol od)
    (hoc : ∀ id, id < 38 → zc_oc ops fA fB fC n id (zp_ar (ops n)) ≤ un id)
    (hav : ∀ k, k < zp_ar (ops n) → zc_hv VC I (zp_op ops fA fB fC n k) ∧ 0 < un (zp_op ops fA fB fC n k))
    (h : ∀ cl1 co1 cx1 cy1 cz1 ct1 us1 ce1 mo1 bu1, zc_BI L OB VC nc b hv lo ops fA fB fC ow ou pre (fun j => if j = n then true else I j) (fun id => un id - zc_oc ops fA fB fC n id (zp_ar (ops n))) cl1 co1 cx1 cy1 cz1 ct1 us1 ce1 mo1 bu1 → cl1 ≤ cl + 20 → post ((nI L), f_nodeCap, f_blockCap, (nI VC), (nI OB), (nI nc), (nI bc), f_phase, f_place, f_last, f_result, f_fault, f_mFill, f_mStore, f_mHalt, f_mJump, (nI cl1), f_front, f_raw, f_ids, f_homes, f_cellCount, (nI ol), ops, fA, fB, fC, ow, kd, en, et, eu, ou, vl, rn, co1, cx1, cy1, cz1, ct1, cs, be, cc, od, us1, ce1, mo1, dn, bu1)) :
    wpX_issue post ((nI L), f_nodeCap, f_blockCap, (nI VC), (nI OB), (nI nc), (nI bc), f_phase, f_place, f_last, f_result, f_fault, f_mFill, f_mStore, f_mHalt, f_mJump, (nI cl), f_front, f_raw, f_ids, f_homes, f_cellCount, (nI ol), ops, fA, fB, fC, ow, kd, en, et, eu, ou, vl, rn, co, cx, cy, cz, ct, cs, be, cc, od, us, ce, mo, dn, bu) (nI n) (nI s) := by
  have K' := K
  obtain ⟨k1, k2, k3, k4, k5, k6, k7, k8⟩ := K'
  have hin32 : vp_in (nI n) 32 := vp_in_nI (by omega) (by decide)
  refine And.intro hin32 (zx_ar (And.intro hin32 ?_))
  rw [nI_clamp (show n < 2 ^ 31 by omega)]
  refine br_c (fun e => ?_) (fun e => ?_)
  · refine zx_iss27 B hn hb K hh (by omega) ho hw hs hod hoc (fun z => absurd e z) (fun e1 => ?_) (fun cl1 co1 cx1 cy1 cz1 ct1 us1 ce1 mo1 bu1 B1 hl => h _ _ _ _ _ _ _ _ _ _ B1 (by omega))
    have ha : zp_ar (ops n) = 1 := by rw [e1]; decide
    exact B.2.2.2.2.2.2 _ (ho n hn 0 (by omega)).2.1 (hav 0 (by omega)).1 (hav 0 (by omega)).2
  · refine zx_gather B hn K hh (by omega) ho hav ?_
    intro cl1 co1 cx1 cy1 cz1 ct1 ce1 mo1 bu1 B1 hl hon
    refine zx_iss27 B1 hn hb K hh (by omega) ho hw hs hod hoc (fun _ => hon) (fun e1 => ?_) (fun cl1 co1 cx1 cy1 cz1 ct1 us1 ce1 mo1 bu1 B1 hl => h _ _ _ _ _ _ _ _ _ _ B1 (by omega))
    rw [e1] at e
    exact absurd (Int32.le_refl 1) e
end ZX
end
section
/-! sums; countUses, layOut, markEntry, ready, score, bestReady -/
def zb_sm (f : Nat → Nat) : Nat → Nat
  | 0 => 0
  | k + 1 => zb_sm f k + f k
theorem zb_smC {f g : Nat → Nat} : ∀ n, (∀ i, i < n → f i = g i) → zb_sm f n = zb_sm g n
  | 0, _ => rfl
  | n + 1, h => by
    show zb_sm f n + f n = zb_sm g n + g n
    rw [zb_smC n (fun i hi => h i (by omega)), h n (by omega)]
theorem zb_smB {f : Nat → Nat} {c : Nat} : ∀ n, (∀ i, i < n → f i ≤ c) → zb_sm f n ≤ c * n
  | 0, _ => Nat.zero_le _
  | n + 1, h => by
    show zb_sm f n + f n ≤ c * (n + 1)
    have h1 := zb_smB n (fun i hi => h i (by omega))
    have h2 := h n (by omega)
    rw [Nat.mul_add, Nat.mul_one]
    omega
theorem zb_smG {f : Nat → Nat} {i : Nat} : ∀ n, i < n → f i ≤ zb_sm f n
  | 0, h => absurd h (by omega)
  | n + 1, h => by
    show f i ≤ zb_sm f n + f n
    by_cases e : i = n
    · rw [e]; omega
    · have := zb_smG (f := f) (i := i) n (by omega)
      omega
/-- two sums that differ at one place -/
theorem zb_sm1 {f g : Nat → Nat} {m : Nat} : ∀ n, m < n → (∀ i, i < n → i ≠ m → f i = g i) → zb_sm f n + g m = zb_sm g n + f m
  | 0, h, _ => absurd h (by omega)
  | n + 1, h, hh => by
    show zb_sm f n + f n + g m = zb_sm g n + g n + f m
    by_cases e : m = n
    · subst e
      rw [zb_smC m (fun i hi => hh i (by omega) (by omega))]
      omega
    · have h1 := zb_sm1 n (by omega) (fun i hi => hh i (by omega))
      have h2 := hh n (by omega) (fun z => e z.symm)
      omega
/-- uses by nodes still to come; uses at the block's end -/
def zc_U (ops fA fB fC ow : Nat → Int32) (b : Nat) (I : Nat → Bool) (id n : Nat) : Nat := zb_sm (fun n => if ow n = nI b ∧ I n = false then zc_oc ops fA fB fC n id (zp_ar (ops n)) else 0) n
def zc_RV (ou : Nat → Int32) (b id n : Nat) : Nat := zb_sm (fun v => if zm_sr ou b v = id then 1 else 0) n
def zc_RE (kd en : Nat → Int32) (b id : Nat) : Nat := if kd b = 1 then 0 else if en b = nI id then 1 else 0
theorem zc_Ub {ops fA fB fC ow : Nat → Int32} {b : Nat} {I : Nat → Bool} {id n : Nat} (hn : n ≤ 32) : zc_U ops fA fB fC ow b I id n ≤ 96 := by
  have := zb_smB (f := fun n => if ow n = nI b ∧ I n = false then zc_oc ops fA fB fC n id (zp_ar (ops n)) else 0) (c := 3) n (fun i _ => by
    show (if _ then _ else 0) ≤ 3
    split
    · exact Nat.le_trans (zc_ocle _ _ _) (zp_ar3 _)
    · omega)
  show zb_sm _ n ≤ 96
  omega
theorem zc_RVb {ou : Nat → Int32} {b id n : Nat} (hn : n ≤ 6) : zc_RV ou b id n ≤ 6 := by
  have := zb_smB (f := fun v => if zm_sr ou b v = id then 1 else 0) (c := 1) n (fun i _ => by
    show (if _ then _ else 0) ≤ 1
    split <;> omega)
  show zb_sm _ n ≤ 6
  omega
theorem zc_REb {kd en : Nat → Int32} {b id : Nat} : zc_RE kd en b id ≤ 1 := by
  unfold zc_RE
  split
  · omega
  · split <;> omega
/-- the ends of a block are good -/
def zc_EG (VC nc : Nat) (ow kd en ou : Nat → Int32) (b : Nat) : Prop :=
  (∀ v, v < VC → ou (b * 6 + v) = -1 ∨ ∃ m, m < nc ∧ ou (b * 6 + v) = nI m ∧ ow m = nI b) ∧ (kd b ≠ 1 → ∃ m, m < nc ∧ en b = nI m ∧ ow m = nI b)
theorem zc_EGs {VC nc : Nat} {ow kd en ou : Nat → Int32} {b : Nat} (h : zc_EG VC nc ow kd en ou b) (hn : nc ≤ 32) (hV : VC ≤ 6) {v : Nat} (hv : v < VC) : zm_srI ou b v = nI (zm_sr ou b v) ∧ zm_sr ou b v < 38 ∧ (ou (b * 6 + v) = -1 → zm_sr ou b v = 32 + v) ∧ (ou (b * 6 + v) ≠ -1 → zm_sr ou b v < nc ∧ ow (zm_sr ou b v) = nI b ∧ ou (b * 6 + v) = nI (zm_sr ou b v)) := by
  unfold zm_sr
  by_cases e : ou (b * 6 + v) = -1
  · have e1 : zm_srI ou b v = nI (32 + v) := by
      unfold zm_srI
      rw [if_pos e, bz_32]
    rw [e1, nI_clamp (by omega)]
    exact ⟨rfl, by omega, fun _ => rfl, fun z => absurd e z⟩
  · obtain ⟨m, hm, e2, e3⟩ := (h.1 v hv).resolve_left e
    have e1 : zm_srI ou b v = nI m := by
      unfold zm_srI
      rw [if_neg e, e2]
    rw [e1, nI_clamp (by omega)]
    exact ⟨rfl, by omega, fun z => absurd z e, fun _ => ⟨hm, e3, e2⟩⟩
section ZX
variable {L VC OB nc bc cl ol : Nat} {f_nodeCap f_blockCap f_phase f_place f_last f_result f_fault f_mFill f_mStore f_mHalt f_mJump f_front f_raw f_ids f_homes f_cellCount : Int32} {ops fA fB fC ow kd en et eu ou vl rn co cx cy cz ct cs be cc od us ce mo dn bu : Nat → Int32}
variable {b : Nat}
theorem zx_source {v : Nat} {post : Int32 → Prop} (hb : b < 6) (hv : v < 6) (h : post (zm_srI ou b v)) : wpX_source post ((nI L), f_nodeCap, f_blockCap, (nI VC), (nI OB), (nI nc), (nI bc), f_phase, f_place, f_last, f_result, f_fault, f_mFill, f_mStore, f_mHalt, f_mJump, (nI cl), f_front, f_raw, f_ids, f_homes, f_cellCount, (nI ol), ops, fA, fB, fC, ow, kd, en, et, eu, ou, vl, rn, co, cx, cy, cz, ct, cs, be, cc, od, us, ce, mo, dn, bu) (nI b) (nI v) := by
  have hi : vp_in (nI (b * 6 + v)) 36 := vp_in_nI (by omega) (by decide)
  unfold wpX_source
  dsimp only
  rw [bz_6, nI_clamp (show b * 6 + v < 2 ^ 31 by omega)]
  unfold zm_srI at h
  refine And.intro hi (br_c (fun e => ?_) (fun e => ?_))
  · rw [if_pos e] at h; exact h
  · rw [if_neg e] at h; exact And.intro hi h
theorem zx_cu55 {post : SX → Prop} {A : Nat → Nat} (hA : ∀ id, A id ≤ 96) (hb : b < 6) (hn : nc ≤ 32) (hV : VC ≤ 6) (E : zc_EG VC nc ow kd en ou b) (h : ∀ us', (∀ id, id < 38 → us' id = nI (A id + zc_RV ou b id VC + zc_RE kd en b id)) → post ((nI L), f_nodeCap, f_blockCap, (nI VC), (nI OB), (nI nc), (nI bc), f_phase, f_place, f_last, f_result, f_fault, f_mFill, f_mStore, f_mHalt, f_mJump, (nI cl), f_front, f_raw, f_ids, f_homes, f_cellCount, (nI ol), ops, fA, fB, fC, ow, kd, en, et, eu, ou, vl, rn, co, cx, cy, cz, ct, cs, be, cc, od, us', ce, mo, dn, bu)) : ∀ d v, v + d = VC → ∀ us1, (∀ id, id < 38 → us1 id = nI (A id + zc_RV ou b id v)) → wX_countUses_55 post (nI b) (nI L) f_nodeCap f_blockCap (nI VC) (nI OB) (nI nc) (nI bc) f_phase f_place f_last f_result f_fault f_mFill f_mStore f_mHalt f_mJump (nI cl) f_front f_raw f_ids f_homes f_cellCount (nI ol) (d + 1) (nI v) ops fA fB fC ow kd en et eu ou vl rn co cx cy cz ct cs be cc od us1 ce mo dn bu := by
  have hb6 : vp_in (nI b) 6 := vp_in_nI hb (by decide)
  intro d
  induction d with
  | zero =>
    intro v hv us1 hu
    obtain rfl : v = VC := by omega
    refine br_t (nI_le (by omega) (by omega)) (And.intro hb6 ?_)
    rw [nI_clamp (show b < 2 ^ 31 by omega)]
    refine br_c (fun e => h _ (fun id hid => ?_)) (fun e => And.intro hb6 ?_)
    · rw [hu id hid]
      unfold zc_RE
      rw [if_pos e]
      rfl
    · obtain ⟨m, hm, e2, _⟩ := E.2 e
      have hm38 : vp_in (nI m) 38 := vp_in_nI (by omega) (by decide)
      rw [e2, nI_clamp (show m < 2 ^ 31 by omega)]
      refine And.intro hm38 (And.intro hm38 (nm_e (h _ (fun id hid => ?_))))
      unfold zc_RE
      rw [if_neg e, e2]
      by_cases e3 : id = m
      · subst e3
        rw [pk_us, hu id hid, nI_1, if_pos rfl]
      · rw [pk_un e3, hu id hid, if_neg (fun z => e3 (bz_inj z (by omega) (by omega)).symm)]
        rfl
  | succ d ih =>
    intro v hv us1 hu
    obtain ⟨s1, s2, _⟩ := zc_EGs E hn hV (v := v) (by omega)
    have hs38 : vp_in (nI (zm_sr ou b v)) 38 := vp_in_nI s2 (by decide)
    refine br_f (nI_ge (by omega) (by omega)) (zx_source hb (by omega) ?_)
    rw [s1, nI_clamp (show zm_sr ou b v < 2 ^ 31 by omega)]
    refine And.intro hs38 (And.intro hs38 (nm_e (nm_r (nI_1 v) (ih (v + 1) (by omega) _ (fun id hid => ?_)))))
    show upd _ _ _ id = nI (A id + (zc_RV ou b id v + (if zm_sr ou b v = id then 1 else 0)))
    by_cases e3 : id = zm_sr ou b v
    · rw [← e3, pk_us, hu id hid, nI_1, if_pos rfl]
      rfl
    · rw [pk_un e3, hu id hid, if_neg (fun z => e3 z.symm)]
      rfl
theorem zx_countUses {post : SX → Prop} (hb : b < 6) (hn : nc ≤ 32) (hV : VC ≤ 6) (ho : zp_OK VC nc ops fA fB fC ow) (E : zc_EG VC nc ow kd en ou b) (h : ∀ us', (∀ id, id < 38 → us' id = nI (zc_U ops fA fB fC ow b (fun _ => false) id nc + zc_RV ou b id VC + zc_RE kd en b id)) → post ((nI L), f_nodeCap, f_blockCap, (nI VC), (nI OB), (nI nc), (nI bc), f_phase, f_place, f_last, f_result, f_fault, f_mFill, f_mStore, f_mHalt, f_mJump, (nI cl), f_front, f_raw, f_ids, f_homes, f_cellCount, (nI ol), ops, fA, fB, fC, ow, kd, en, et, eu, ou, vl, rn, co, cx, cy, cz, ct, cs, be, cc, od, us', ce, mo, dn, bu)) : wpX_countUses post ((nI L), f_nodeCap, f_blockCap, (nI VC), (nI OB), (nI nc), (nI bc), f_phase, f_place, f_last, f_result, f_fault, f_mFill, f_mStore, f_mHalt, f_mJump, (nI cl), f_front, f_raw, f_ids, f_homes, f_cellCount, (nI ol), ops, fA, fB, fC, ow, kd, en, et, eu, ou, vl, rn, co, cx, cy, cz, ct, cs, be, cc, od, us, ce, mo, dn, bu) (nI b) := by
  have key2 : ∀ d n, n + d = nc → ∀ us1, (∀ id, id < 38 → us1 id = nI (zc_U ops fA fB fC ow b (fun _ => false) id n)) → wX_countUses_23 post (nI b) (d + 1) (nI n) (nI L) f_nodeCap f_blockCap (nI VC) (nI OB) (nI nc) (nI bc) f_phase f_place f_last f_result f_fault f_mFill f_mStore f_mHalt f_mJump (nI cl) f_front f_raw f_ids f_homes f_cellCount (nI ol) ops fA fB fC ow kd en et eu ou vl rn co cx cy cz ct cs be cc od us1 ce mo dn bu := by
    intro d
    induction d with
    | zero =>
      intro n hn' us1 hu
      obtain rfl : n = nc := by omega
      refine br_t (nI_le (by omega) (by omega)) ⟨_, zx_cu55 (A := fun id => zc_U ops fA fB fC ow b (fun _ => false) id n) (fun id => zc_Ub hn) hb hn hV E h VC 0 (by omega) us1 (fun id hid => ?_)⟩
      rw [hu id hid]
      rfl
    | succ d ih =>
      intro n hn' us1 hu
      refine br_f (nI_ge (by omega) (by omega)) (And.intro (vp_in_nI (by omega) (by decide)) ?_)
      rw [nI_clamp (show n < 2 ^ 31 by omega)]
      refine br_c (fun e => zx_addUses (by omega) (fun k hk => ⟨(ho n (by omega) k hk).1, (ho n (by omega) k hk).2.1⟩) (nm_r (nI_1 n) (ih (n + 1) (by omega) _ (fun id hid => ?_)))) (fun e => nm_r (nI_1 n) (ih (n + 1) (by omega) _ (fun id hid => ?_)))
      · rw [zc_auP hu (zp_ar (ops n)) (fun j hj => (ho n (by omega) j hj).2.1) id hid]
        show _ = nI (zc_U ops fA fB fC ow b (fun _ => false) id n + (if ow n = nI b ∧ false = false then _ else 0))
        rw [if_pos ⟨e, rfl⟩]
      · rw [hu id hid]
        show _ = nI (zc_U ops fA fB fC ow b (fun _ => false) id n + (if ow n = nI b ∧ false = false then _ else 0))
        rw [if_neg (fun z => e z.1)]
        rfl
  have key1 : ∀ d i, i + d = 38 → ∀ us1, (∀ id, id < i → us1 id = 0) → wX_countUses_2 post (nI b) (nI L) f_nodeCap f_blockCap (nI VC) (nI OB) (nI nc) (nI bc) f_phase f_place f_last f_result f_fault f_mFill f_mStore f_mHalt f_mJump (nI cl) f_front f_raw f_ids f_homes f_cellCount (nI ol) (d + 1) (nI i) ops fA fB fC ow kd en et eu ou vl rn co cx cy cz ct cs be cc od us1 ce mo dn bu := by
    intro d
    induction d with
    | zero =>
      intro i hi us1 hu
      exact br_t (nI_le (a := 38) (by omega) (by omega)) ⟨_, key2 nc 0 (by omega) us1 (fun id hid => hu id (by omega))⟩
    | succ d ih =>
      intro i hi us1 hu
      refine br_f (nI_ge (b := 38) (by omega) (by decide)) (And.intro (vp_in_nI (by omega) (by decide)) ?_)
      rw [nI_clamp (show i < 2 ^ 31 by omega)]
      refine nm_e (nm_r (nI_1 i) (ih (i + 1) (by omega) _ (fun id hid => ?_)))
      by_cases e : id = i
      · rw [e, pk_us]
      · rw [pk_un e]; exact hu id (by omega)
  exact ⟨_, key1 38 0 (by omega) us (fun id hid => absurd hid (by omega))⟩
theorem zx_layOut {post : SX → Prop} (h4 : L ≤ 12) (hO : OB ≤ VC) (hV : VC ≤ 6)
    (h : ∀ mo1 ce1 bu1, (∀ i, i < L → mo1 i = if i < OB then nI (32 + i) else -1) → (∀ id, id < 38 → ce1 id = if 32 + OB ≤ id ∧ id < 32 + VC then nI (id - 32) else -1) → (∀ c, c < 44 → bu1 c = 0) → post ((nI L), f_nodeCap, f_blockCap, (nI VC), (nI OB), (nI nc), (nI bc), f_phase, f_place, f_last, f_result, f_fault, f_mFill, f_mStore, f_mHalt, f_mJump, (nI cl), f_front, f_raw, f_ids, f_homes, f_cellCount, (nI ol), ops, fA, fB, fC, ow, kd, en, et, eu, ou, vl, rn, co, cx, cy, cz, ct, cs, be, cc, od, us, ce1, mo1, dn, bu1)) : wpX_layOut post ((nI L), f_nodeCap, f_blockCap, (nI VC), (nI OB), (nI nc), (nI bc), f_phase, f_place, f_last, f_result, f_fault, f_mFill, f_mStore, f_mHalt, f_mJump, (nI cl), f_front, f_raw, f_ids, f_homes, f_cellCount, (nI ol), ops, fA, fB, fC, ow, kd, en, et, eu, ou, vl, rn, co, cx, cy, cz, ct, cs, be, cc, od, us, ce, mo, dn, bu) := by
  have key4 : ∀ mo1 ce1, (∀ i, i < L → mo1 i = if i < OB then nI (32 + i) else -1) → (∀ id, id < 38 → ce1 id = if 32 + OB ≤ id ∧ id < 32 + VC then nI (id - 32) else -1) → ∀ d i, i + d = 44 → ∀ bu1, (∀ c, c < i → bu1 c = 0) → wX_layOut_90 post (nI L) f_nodeCap f_blockCap (nI VC) (nI OB) (nI nc) (nI bc) f_phase f_place f_last f_result f_fault f_mFill f_mStore f_mHalt f_mJump (nI cl) f_front f_raw f_ids f_homes f_cellCount (nI ol) (d + 1) (nI i) ops fA fB fC ow kd en et eu ou vl rn co cx cy cz ct cs be cc od us ce1 mo1 dn bu1 := by
    intro mo1 ce1 hm hc d
    induction d with
    | zero =>
      intro i hi bu1 hb
      exact br_t (nI_le (a := 44) (by omega) (by omega)) (h _ _ _ hm hc (fun c hc => hb c (by omega)))
    | succ d ih =>
      intro i hi bu1 hb
      refine br_f (nI_ge (b := 44) (by omega) (by decide)) (And.intro (vp_in_nI (by omega) (by decide)) ?_)
      rw [nI_clamp (show i < 2 ^ 31 by omega), bz_b0]
      refine nm_e (nm_r (nI_1 i) (ih (i + 1) (by omega) _ (fun id hid => ?_)))
      by_cases e : id = i
      · rw [e, pk_us]
      · rw [pk_un e]; exact hb id (by omega)
  have key3 : ∀ mo1, (∀ i, i < L → mo1 i = if i < OB then nI (32 + i) else -1) → ∀ d v, v + d = VC → OB ≤ v → ∀ ce1, (∀ id, id < 38 → ce1 id = if 32 + OB ≤ id ∧ id < 32 + v then nI (id - 32) else -1) → wX_layOut_64 post (nI L) f_nodeCap f_blockCap (nI VC) (nI OB) (nI nc) (nI bc) f_phase f_place f_last f_result f_fault f_mFill f_mStore f_mHalt f_mJump (nI cl) f_front f_raw f_ids f_homes f_cellCount (nI ol) (d + 1) (nI v) ops fA fB fC ow kd en et eu ou vl rn co cx cy cz ct cs be cc od us ce1 mo1 dn bu := by
    intro mo1 hm d
    induction d with
    | zero =>
      intro v hv _ ce1 hc
      obtain rfl : v = VC := by omega
      exact br_t (nI_le (by omega) (by omega)) ⟨_, key4 mo1 ce1 hm hc 44 0 (by omega) bu (fun c hc => absurd hc (by omega))⟩
    | succ d ih =>
      intro v hv hov ce1 hc
      refine br_f (nI_ge (by omega) (by omega)) ?_
      rw [bz_32, nI_clamp (show 32 + v < 2 ^ 31 by omega)]
      refine And.intro (vp_in_nI (by omega) (by decide)) (nm_e (nm_r (nI_1 v) (ih (v + 1) (by omega) (by omega) _ (fun id hid => ?_))))
      by_cases e : id = 32 + v
      · rw [e, pk_us, if_pos (by omega), Nat.add_sub_cancel_left]
      · rw [pk_un e, hc id hid]
        by_cases c1 : 32 + OB ≤ id ∧ id < 32 + v
        · rw [if_pos c1, if_pos (by omega)]
        · rw [if_neg c1, if_neg (by omega)]
  have key2 : ∀ mo1, (∀ i, i < L → mo1 i = if i < OB then nI (32 + i) else -1) → ∀ d i, i + d = 38 → ∀ ce1, (∀ id, id < i → ce1 id = -1) → wX_layOut_40 post (nI L) f_nodeCap f_blockCap (nI VC) (nI OB) (nI nc) (nI bc) f_phase f_place f_last f_result f_fault f_mFill f_mStore f_mHalt f_mJump (nI cl) f_front f_raw f_ids f_homes f_cellCount (nI ol) (d + 1) (nI i) ops fA fB fC ow kd en et eu ou vl rn co cx cy cz ct cs be cc od us ce1 mo1 dn bu := by
    intro mo1 hm d
    induction d with
    | zero =>
      intro i hi ce1 hc
      refine br_t (nI_le (a := 38) (by omega) (by omega)) ⟨_, key3 mo1 hm (VC - OB) OB (by omega) (Nat.le_refl _) ce1 (fun id hid => ?_)⟩
      rw [if_neg (by omega)]
      exact hc id (by omega)
    | succ d ih =>
      intro i hi ce1 hc
      refine br_f (nI_ge (b := 38) (by omega) (by decide)) (And.intro (vp_in_nI (by omega) (by decide)) ?_)
      rw [nI_clamp (show i < 2 ^ 31 by omega)]
      refine nm_e (nm_r (nI_1 i) (ih (i + 1) (by omega) _ (fun id hid => ?_)))
      by_cases e : id = i
      · rw [e, pk_us]
      · rw [pk_un e]; exact hc id (by omega)
  have key1 : ∀ d i, i + d = L → ∀ mo1, (∀ j, j < i → mo1 j = if j < OB then nI (32 + j) else -1) → wX_layOut_2 post (nI L) f_nodeCap f_blockCap (nI VC) (nI OB) (nI nc) (nI bc) f_phase f_place f_last f_result f_fault f_mFill f_mStore f_mHalt f_mJump (nI cl) f_front f_raw f_ids f_homes f_cellCount (nI ol) (d + 1) (nI i) ops fA fB fC ow kd en et eu ou vl rn co cx cy cz ct cs be cc od us ce mo1 dn bu := by
    intro d
    induction d with
    | zero =>
      intro i hi mo1 hm
      exact br_t (nI_le (by omega) (by omega)) ⟨_, key2 mo1 (fun j hj => hm j (by omega)) 38 0 (by omega) ce (fun id hid => absurd hid (by omega))⟩
    | succ d ih =>
      intro i hi mo1 hm
      refine br_f (nI_ge (by omega) (by omega)) ?_
      rw [nI_clamp (show i < 2 ^ 31 by omega), bz_32]
      refine pk_le OB i (fun c => And.intro (vp_in_nI (by omega) (by decide)) (nm_e (nm_r (nI_1 i) (ih (i + 1) (by omega) _ (fun id hid => ?_))))) (fun c => And.intro (vp_in_nI (by omega) (by decide)) (nm_e (nm_r (nI_1 i) (ih (i + 1) (by omega) _ (fun id hid => ?_)))))
      · by_cases e : id = i
        · rw [e, pk_us, if_neg (by omega)]
        · rw [pk_un e]; exact hm id (by omega)
      · by_cases e : id = i
        · rw [e, pk_us, if_pos (by omega)]
        · rw [pk_un e]; exact hm id (by omega)
  exact ⟨_, key1 L 0 (by omega) mo (fun j hj => absurd hj (by omega))⟩
theorem zx_markEntry {post : SX → Prop} (h : ∀ dn1, (∀ i, i < 32 → dn1 i = 0) → (∀ i, 32 ≤ i → i < 38 → dn1 i = 1) → post ((nI L), f_nodeCap, f_blockCap, (nI VC), (nI OB), (nI nc), (nI bc), f_phase, f_place, f_last, f_result, f_fault, f_mFill, f_mStore, f_mHalt, f_mJump, (nI cl), f_front, f_raw, f_ids, f_homes, f_cellCount, (nI ol), ops, fA, fB, fC, ow, kd, en, et, eu, ou, vl, rn, co, cx, cy, cz, ct, cs, be, cc, od, us, ce, mo, dn1, bu)) : wpX_markEntry post ((nI L), f_nodeCap, f_blockCap, (nI VC), (nI OB), (nI nc), (nI bc), f_phase, f_place, f_last, f_result, f_fault, f_mFill, f_mStore, f_mHalt, f_mJump, (nI cl), f_front, f_raw, f_ids, f_homes, f_cellCount, (nI ol), ops, fA, fB, fC, ow, kd, en, et, eu, ou, vl, rn, co, cx, cy, cz, ct, cs, be, cc, od, us, ce, mo, dn, bu) := by
  have key : ∀ d i, i + d = 38 → ∀ dn1, (∀ j, j < i → j < 32 → dn1 j = 0) → (∀ j, 32 ≤ j → j < i → dn1 j = 1) → wX_markEntry_2 post (nI L) f_nodeCap f_blockCap (nI VC) (nI OB) (nI nc) (nI bc) f_phase f_place f_last f_result f_fault f_mFill f_mStore f_mHalt f_mJump (nI cl) f_front f_raw f_ids f_homes f_cellCount (nI ol) (d + 1) (nI i) ops fA fB fC ow kd en et eu ou vl rn co cx cy cz ct cs be cc od us ce mo dn1 bu := by
    intro d
    induction d with
    | zero =>
      intro i hi dn1 h1 h2
      exact br_t (nI_le (a := 38) (by omega) (by omega)) (h _ (fun j hj => h1 j (by omega) hj) (fun j hj hj2 => h2 j hj (by omega)))
    | succ d ih =>
      intro i hi dn1 h1 h2
      refine br_f (nI_ge (b := 38) (by omega) (by decide)) ?_
      rw [nI_clamp (show i < 2 ^ 31 by omega), bz_b0, bz_b1]
      refine pk_lt i 32 (fun c => And.intro (vp_in_nI (by omega) (by decide)) (nm_e (nm_r (nI_1 i) (ih (i + 1) (by omega) _ (fun j hj hj2 => ?_) (fun j hj hj2 => ?_))))) (fun c => And.intro (vp_in_nI (by omega) (by decide)) (nm_e (nm_r (nI_1 i) (ih (i + 1) (by omega) _ (fun j hj hj2 => ?_) (fun j hj hj2 => ?_)))))
      · by_cases e : j = i
        · rw [e, pk_us]
        · rw [pk_un e]; exact h1 j (by omega) hj2
      · omega
      · rw [pk_un (by omega)]; exact h1 j (by omega) hj2
      · by_cases e : j = i
        · rw [e, pk_us]
        · rw [pk_un e]; exact h2 j hj (by omega)
  exact ⟨_, key 38 0 (by omega) dn (fun j hj => absurd hj (by omega)) (fun j _ hj => absurd hj (by omega))⟩
theorem zx_ready {n : Nat} {post : Int32 → Prop} (hn : n < 32) (ho : ∀ k, k < zp_ar (ops n) → zp_opI ops fA fB fC n k = nI (zp_op ops fA fB fC n k) ∧ zp_op ops fA fB fC n k < 38) (h1 : (∀ k, k < zp_ar (ops n) → dn (zp_op ops fA fB fC n k) ≠ 0) → post 1) (h0 : ∀ k, k < zp_ar (ops n) → dn (zp_op ops fA fB fC n k) = 0 → post 0) : wpX_ready post ((nI L), f_nodeCap, f_blockCap, (nI VC), (nI OB), (nI nc), (nI bc), f_phase, f_place, f_last, f_result, f_fault, f_mFill, f_mStore, f_mHalt, f_mJump, (nI cl), f_front, f_raw, f_ids, f_homes, f_cellCount, (nI ol), ops, fA, fB, fC, ow, kd, en, et, eu, ou, vl, rn, co, cx, cy, cz, ct, cs, be, cc, od, us, ce, mo, dn, bu) (nI n) := by
  have h3 := zp_ar3 (ops n)
  refine And.intro (vp_in_nI hn (by decide)) (zx_ar ?_)
  rw [nI_clamp (show n < 2 ^ 31 by omega)]
  have key : ∀ e k, k + e = zp_ar (ops n) → (∀ j, j < k → dn (zp_op ops fA fB fC n j) ≠ 0) → wX_ready_13 post (nI n) (nI (zp_ar (ops n))) (nI L) f_nodeCap f_blockCap (nI VC) (nI OB) (nI nc) (nI bc) f_phase f_place f_last f_result f_fault f_mFill f_mStore f_mHalt f_mJump (nI cl) f_front f_raw f_ids f_homes f_cellCount (nI ol) ops fA fB fC ow kd en et eu ou vl rn co cx cy cz ct cs be cc od us ce mo dn bu (e + 1) (nI k) := by
    intro e
    induction e with
    | zero =>
      intro k hk hj
      exact br_t (nI_le (by omega) (by omega)) (h1 (fun j hj' => hj j (by omega)))
    | succ e ih =>
      intro k hk hj
      obtain ⟨p1, p2⟩ := ho k (by omega)
      refine br_f (nI_ge (by omega) (by omega)) (zx_opId hn (by omega) ?_)
      rw [p1, nI_clamp (show zp_op ops fA fB fC n k < 2 ^ 31 by omega)]
      refine And.intro (vp_in_nI p2 (by decide)) (br_c (fun z => h0 k (by omega) z) (fun z => nm_r (nI_1 k) (ih (k + 1) (by omega) (fun j hj' => ?_))))
      by_cases c : j = k
      · rw [c]; exact z
      · exact hj j (by omega)
  exact ⟨_, key (zp_ar (ops n)) 0 (by omega) (fun j hj => absurd hj (by omega))⟩
theorem zx_score {n : Nat} {post : Int32 → Prop} (hn : n < 32) (ho : ∀ k, k < zp_ar (ops n) → zp_opI ops fA fB fC n k = nI (zp_op ops fA fB fC n k) ∧ zp_op ops fA fB fC n k < 38) (h : ∀ s, s ≤ 7 → post (nI s)) : wpX_score post ((nI L), f_nodeCap, f_blockCap, (nI VC), (nI OB), (nI nc), (nI bc), f_phase, f_place, f_last, f_result, f_fault, f_mFill, f_mStore, f_mHalt, f_mJump, (nI cl), f_front, f_raw, f_ids, f_homes, f_cellCount, (nI ol), ops, fA, fB, fC, ow, kd, en, et, eu, ou, vl, rn, co, cx, cy, cz, ct, cs, be, cc, od, us, ce, mo, dn, bu) (nI n) := by
  have h3 := zp_ar3 (ops n)
  have hi : vp_in (nI n) 32 := vp_in_nI hn (by decide)
  have key : ∀ e k s, k + e = zp_ar (ops n) → s ≤ 2 * k + 1 → wX_score_30 post (nI n) (nI (zp_ar (ops n))) (nI L) f_nodeCap f_blockCap (nI VC) (nI OB) (nI nc) (nI bc) f_phase f_place f_last f_result f_fault f_mFill f_mStore f_mHalt f_mJump (nI cl) f_front f_raw f_ids f_homes f_cellCount (nI ol) ops fA fB fC ow kd en et eu ou vl rn co cx cy cz ct cs be cc od us ce mo dn bu (e + 1) (nI s) (nI k) := by
    intro e
    induction e with
    | zero =>
      intro k s hk hs
      exact br_t (nI_le (by omega) (by omega)) (h s (by omega))
    | succ e ih =>
      intro k s hk hs
      obtain ⟨p1, p2⟩ := ho k (by omega)
      refine br_f (nI_ge (by omega) (by omega)) (zx_opId hn (by omega) ?_)
      rw [p1, nI_clamp (show zp_op ops fA fB fC n k < 2 ^ 31 by omega)]
      exact And.intro (vp_in_nI p2 (by decide)) (br_c (fun _ => nm_r (nI_add s 2) (nm_r (nI_1 k) (ih (k + 1) (s + 2) (by omega) (by omega)))) (fun _ => nm_r (nI_1 k) (ih (k + 1) s (by omega) (by omega))))
  have k15 : ∀ z, z ≤ 1 → wX_score_15 post (nI n) (nI z) (nI L) f_nodeCap f_blockCap (nI VC) (nI OB) (nI nc) (nI bc) f_phase f_place f_last f_result f_fault f_mFill f_mStore f_mHalt f_mJump (nI cl) f_front f_raw f_ids f_homes f_cellCount (nI ol) ops fA fB fC ow kd en et eu ou vl rn co cx cy cz ct cs be cc od us ce mo dn bu := by
    intro z hz
    refine And.intro hi (zx_ar ?_)
    rw [nI_clamp (show n < 2 ^ 31 by omega)]
    exact ⟨_, key (zp_ar (ops n)) 0 z (by omega) (by omega)⟩
  exact And.intro hi (br_c (fun _ => k15 0 (by omega)) (fun _ => k15 1 (by omega)))
def zc_rd (ops fA fB fC ow dn : Nat → Int32) (b n : Nat) : Prop := ow n = nI b ∧ dn n = 0 ∧ ∀ k, k < zp_ar (ops n) → dn (zp_op ops fA fB fC n k) ≠ 0
theorem zx_best {post : Int32 → Prop} (hn : nc ≤ 32) (ho : zp_OK VC nc ops fA fB fC ow) (h0 : (∀ n, n < nc → ¬ zc_rd ops fA fB fC ow dn b n) → post (-1)) (h1 : ∀ n, n < nc → zc_rd ops fA fB fC ow dn b n → post (nI n)) : wpX_bestReady post ((nI L), f_nodeCap, f_blockCap, (nI VC), (nI OB), (nI nc), (nI bc), f_phase, f_place, f_last, f_result, f_fault, f_mFill, f_mStore, f_mHalt, f_mJump, (nI cl), f_front, f_raw, f_ids, f_homes, f_cellCount, (nI ol), ops, fA, fB, fC, ow, kd, en, et, eu, ou, vl, rn, co, cx, cy, cz, ct, cs, be, cc, od, us, ce, mo, dn, bu) (nI b) := by
  have key : ∀ d n (x s : Int32), n + d = nc → ((x = -1 ∧ s = -1 ∧ ∀ m, m < n → ¬ zc_rd ops fA fB fC ow dn b m) ∨ ∃ m, m < nc ∧ x = nI m ∧ zc_rd ops fA fB fC ow dn b m) → wX_bestReady_7 post (nI b) (nI L) f_nodeCap f_blockCap (nI VC) (nI OB) (nI nc) (nI bc) f_phase f_place f_last f_result f_fault f_mFill f_mStore f_mHalt f_mJump (nI cl) f_front f_raw f_ids f_homes f_cellCount (nI ol) ops fA fB fC ow kd en et eu ou vl rn co cx cy cz ct cs be cc od us ce mo dn bu (d + 1) x s (nI n) := by
    intro d
    induction d with
    | zero =>
      intro n x s hn' hx
      refine br_t (nI_le (by omega) (by omega)) ?_
      rcases hx with ⟨rfl, _, hx⟩ | ⟨m, hm, rfl, hx⟩
      · exact h0 (fun m hm => hx m (by omega))
      · exact h1 m hm hx
    | succ d ih =>
      intro n x s hn' hx
      have nx : ∀ (hne : ¬ zc_rd ops fA fB fC ow dn b n), ((x = -1 ∧ s = -1 ∧ ∀ m, m < n + 1 → ¬ zc_rd ops fA fB fC ow dn b m) ∨ ∃ m, m < nc ∧ x = nI m ∧ zc_rd ops fA fB fC ow dn b m) := by
        intro hne
        rcases hx with ⟨z1, z2, z3⟩ | z
        · refine Or.inl ⟨z1, z2, fun m hm => ?_⟩
          by_cases c : m = n
          · rw [c]; exact hne
          · exact z3 m (by omega)
        · exact Or.inr z
      have hop := fun k hk => (⟨(ho n (by omega) k hk).1, (ho n (by omega) k hk).2.1⟩ : zp_opI ops fA fB fC n k = nI (zp_op ops fA fB fC n k) ∧ zp_op ops fA fB fC n k < 38)
      refine br_f (nI_ge (by omega) (by omega)) (And.intro (vp_in_nI (by omega) (by decide)) ?_)
      rw [nI_clamp (show n < 2 ^ 31 by omega)]
      refine br_c (fun e1 => And.intro (vp_in_nI (by omega) (by decide)) (br_c (fun e2 => zx_ready (by omega) hop (fun hr => br_f (by decide) (zx_score (by omega) hop (fun t ht => ?_))) (fun k hk hz => br_t rfl (nm_r (nI_1 n) (ih (n + 1) x s (by omega) (nx (fun z => z.2.2 k hk hz)))))) (fun e2 => nm_r (nI_1 n) (ih (n + 1) x s (by omega) (nx (fun z => e2 z.2.1)))))) (fun e1 => nm_r (nI_1 n) (ih (n + 1) x s (by omega) (nx (fun z => e1 z.1))))
      refine br_c (fun z => nm_r (nI_1 n) (ih (n + 1) x s (by omega) ?_)) (fun z => nm_r (nI_1 n) (ih (n + 1) (nI n) (nI t) (by omega) (Or.inr ⟨n, by omega, rfl, e1, e2, hr⟩)))
      rcases hx with ⟨_, z2, _⟩ | z3
      · rw [z2] at z
        exact absurd (Int32.lt_of_le_of_lt z bz_nm1lt) (nI_pos (by omega))
      · exact Or.inr z3
  exact ⟨_, key nc 0 (-1) (-1) (by omega) (Or.inl ⟨rfl, rfl, fun m hm => absurd hm (by omega)⟩)⟩
end ZX
end
section
/-! the order of a block's nodes -/
def zc_SO (nc b : Nat) (ops fA fB fC ow : Nat → Int32) (ol : Nat) (od dn : Nat → Int32) : Prop :=
  (∀ j, j < ol → ∃ m, m < nc ∧ od j = nI m ∧ ow m = nI b ∧ dn m ≠ 0) ∧
  (∀ j j', j < ol → j' < ol → od j = od j' → j = j') ∧
  (∀ m, m < 32 → dn m ≠ 0 → ∃ j, j < ol ∧ od j = nI m) ∧
  (∀ m, 32 ≤ m → m < 38 → dn m ≠ 0) ∧
  (∀ j, j < ol → ∀ m, m < nc → od j = nI m → ∀ k, k < zp_ar (ops m) → ops m ≠ 1 → ∃ j', j' < j ∧ od j' = nI (zp_op ops fA fB fC m k))
def zc_OR (nc b : Nat) (ops fA fB fC ow : Nat → Int32) (ol : Nat) (od : Nat → Int32) : Prop :=
  ol ≤ 32 ∧ (∀ j, j < ol → ∃ m, m < nc ∧ od j = nI m ∧ ow m = nI b) ∧
  (∀ j j', j < ol → j' < ol → od j = od j' → j = j') ∧
  (∀ j, j < ol → ∀ m, m < nc → od j = nI m → ∀ k, k < zp_ar (ops m) → ops m ≠ 1 → ∃ j', j' < j ∧ od j' = nI (zp_op ops fA fB fC m k)) ∧
  (∀ m, m < nc → ow m = nI b → ∃ j, j < ol ∧ od j = nI m)
section ZS
variable {VC nc b ol : Nat} {ops fA fB fC ow od dn : Nat → Int32}
theorem zc_allD (hn : nc ≤ 32) (ho : zp_OK VC nc ops fA fB fC ow) {p : Nat → Nat} (hp : zp_RK ops fA fB fC nc p) (S : zc_SO nc b ops fA fB fC ow ol od dn) (h : ∀ n, n < nc → ¬ zc_rd ops fA fB fC ow dn b n) : ∀ r m, m < nc → p m * 32 + m = r → ow m = nI b → dn m ≠ 0 := by
  intro r
  induction r using Nat.strongRecOn with
  | ind r ih =>
    intro m hm hr hb hd
    refine h m hm ⟨hb, hd, fun k hk => ?_⟩
    obtain ⟨_, h2, h3, h4⟩ := ho m hm k hk
    by_cases e1 : ops m = 1
    · exact S.2.2.2.1 _ (h3 e1).1 h2
    · obtain ⟨h5, h6⟩ := h4 e1
      have h7 := (hp m hm).2 k hk e1
      exact ih _ (by omega) _ h5 rfl (h6.trans hb)
theorem zc_SOs {m : Nat} (hn : nc ≤ 32) (ho : zp_OK VC nc ops fA fB fC ow) (S : zc_SO nc b ops fA fB fC ow ol od dn) (hm : m < nc) (hr : zc_rd ops fA fB fC ow dn b m) : zc_SO nc b ops fA fB fC ow (ol + 1) (upd od ol (nI m)) (upd dn m 1) := by
  obtain ⟨s1, s2, s3, s4, s5⟩ := S
  obtain ⟨r1, r2, r3⟩ := hr
  have h10 : (1 : Int32) ≠ 0 := by decide
  have hnew : ∀ j, j < ol → od j ≠ nI m := by
    intro j hj e
    obtain ⟨m', hm', e', _, hd⟩ := s1 j hj
    have := bz_inj (e'.symm.trans e) (by omega) (by omega)
    rw [this] at hd
    exact hd r2
  refine ⟨?_, ?_, ?_, ?_, ?_⟩
  · intro j hj
    by_cases e : j = ol
    · exact ⟨m, hm, by rw [e, pk_us], r1, by rw [pk_us]; exact h10⟩
    · obtain ⟨m', hm', e', hb, hd⟩ := s1 j (by omega)
      refine ⟨m', hm', by rw [pk_un e]; exact e', hb, ?_⟩
      by_cases c : m' = m
      · rw [c, pk_us]; exact h10
      · rw [pk_un c]; exact hd
  · intro j j' hj hj' e
    by_cases c : j = ol
    · by_cases c' : j' = ol
      · omega
      · rw [c, pk_us, pk_un c'] at e
        exact absurd e.symm (hnew j' (by omega))
    · by_cases c' : j' = ol
      · rw [c', pk_us, pk_un c] at e
        exact absurd e (hnew j (by omega))
      · rw [pk_un c, pk_un c'] at e
        exact s2 j j' (by omega) (by omega) e
  · intro m' hm' hd
    by_cases c : m' = m
    · exact ⟨ol, by omega, by rw [pk_us, c]⟩
    · rw [pk_un c] at hd
      obtain ⟨j, hj, e⟩ := s3 m' hm' hd
      exact ⟨j, by omega, by rw [pk_un (by omega)]; exact e⟩
  · intro m' h32 h38
    rw [pk_un (by omega)]
    exact s4 m' h32 h38
  · intro j hj m' hm' e k hk e1
    by_cases c : j = ol
    · rw [c, pk_us] at e
      have := bz_inj e (by omega) (by omega)
      subst this
      obtain ⟨_, h2, _, h4⟩ := ho m hm k hk
      have h5 := (h4 e1).1
      obtain ⟨j', hj', e'⟩ := s3 _ (by omega) (r3 k hk)
      exact ⟨j', by omega, by rw [pk_un (by omega)]; exact e'⟩
    · rw [pk_un c] at e
      obtain ⟨j', hj', e'⟩ := s5 j (by omega) m' hm' e k hk e1
      exact ⟨j', hj', by rw [pk_un (by omega)]; exact e'⟩
theorem zc_SOe (hn : nc ≤ 32) (S : zc_SO nc b ops fA fB fC ow ol od dn) (hl : ol ≤ nc) (h : ol = nc ∨ ∀ m, m < nc → ow m = nI b → dn m ≠ 0) : zc_OR nc b ops fA fB fC ow ol od := by
  obtain ⟨s1, s2, s3, s4, s5⟩ := S
  refine ⟨by omega, fun j hj => ?_, s2, s5, fun m hm hb => ?_⟩
  · obtain ⟨m, h1, h2, h3, _⟩ := s1 j hj
    exact ⟨m, h1, h2, h3⟩
  · rcases h with h | h
    · have hmem : m ∈ (List.range nc).map (fun j => (od j).toNatClampNeg) := by
        refine covers_all nc _ ?_ ?_ (by simp) m hm
        · refine List.pairwise_map.mpr (List.Pairwise.imp_of_mem ?_ List.pairwise_lt_range)
          intro x y hx hy hxy e
          have hx := List.mem_range.mp hx
          have hy := List.mem_range.mp hy
          obtain ⟨m1, g1, g2, _⟩ := s1 x (by omega)
          obtain ⟨m2, f1, f2, _⟩ := s1 y (by omega)
          have e' : (od x).toNatClampNeg = (od y).toNatClampNeg := e
          rw [g2, f2, nI_clamp (by omega), nI_clamp (by omega)] at e'
          have := s2 x y (by omega) (by omega) (by rw [g2, f2, e'])
          omega
        · intro x hx
          obtain ⟨j, hj, rfl⟩ := List.mem_map.mp hx
          have hj := List.mem_range.mp hj
          obtain ⟨m1, g1, g2, _⟩ := s1 j (by omega)
          rw [g2, nI_clamp (by omega)]
          exact g1
      obtain ⟨j, hj, e⟩ := List.mem_map.mp hmem
      have hj := List.mem_range.mp hj
      obtain ⟨m1, g1, g2, _⟩ := s1 j (by omega)
      rw [g2, nI_clamp (by omega)] at e
      exact ⟨j, by omega, e ▸ g2⟩
    · exact s3 m (by omega) (h m hm hb)
end ZS
section ZX
variable {L VC OB nc bc cl ol : Nat} {f_nodeCap f_blockCap f_phase f_place f_last f_result f_fault f_mFill f_mStore f_mHalt f_mJump f_front f_raw f_ids f_homes f_cellCount : Int32} {ops fA fB fC ow kd en et eu ou vl rn co cx cy cz ct cs be cc od us ce mo dn bu : Nat → Int32}
variable {b : Nat}
theorem zx_sched {post : SX → Prop} (hb : b < 6) (hn : nc ≤ 32) (hV : VC ≤ 6) (ho : zp_OK VC nc ops fA fB fC ow) (E : zc_EG VC nc ow kd en ou b) {p : Nat → Nat} (hp : zp_RK ops fA fB fC nc p)
    (h : ∀ ol1 od1 us1 dn1, zc_OR nc b ops fA fB fC ow ol1 od1 → post ((nI L), f_nodeCap, f_blockCap, (nI VC), (nI OB), (nI nc), (nI bc), f_phase, f_place, f_last, f_result, f_fault, f_mFill, f_mStore, f_mHalt, f_mJump, (nI cl), f_front, f_raw, f_ids, f_homes, f_cellCount, (nI ol1), ops, fA, fB, fC, ow, kd, en, et, eu, ou, vl, rn, co, cx, cy, cz, ct, cs, be, cc, od1, us1, ce, mo, dn1, bu)) : wpX_schedule post ((nI L), f_nodeCap, f_blockCap, (nI VC), (nI OB), (nI nc), (nI bc), f_phase, f_place, f_last, f_result, f_fault, f_mFill, f_mStore, f_mHalt, f_mJump, (nI cl), f_front, f_raw, f_ids, f_homes, f_cellCount, (nI ol), ops, fA, fB, fC, ow, kd, en, et, eu, ou, vl, rn, co, cx, cy, cz, ct, cs, be, cc, od, us, ce, mo, dn, bu) (nI b) := by
  have key : ∀ d i, i + d = nc → ∀ ol1 od1 us1 dn1, zc_SO nc b ops fA fB fC ow ol1 od1 dn1 → ol1 ≤ i → (ol1 = i ∨ ∀ m, m < nc → ow m = nI b → dn1 m ≠ 0) → wX_schedule_16 post (nI b) (d + 1) (nI i) (nI L) f_nodeCap f_blockCap (nI VC) (nI OB) (nI nc) (nI bc) f_phase f_place f_last f_result f_fault f_mFill f_mStore f_mHalt f_mJump (nI cl) f_front f_raw f_ids f_homes f_cellCount (nI ol1) ops fA fB fC ow kd en et eu ou vl rn co cx cy cz ct cs be cc od1 us1 ce mo dn1 bu := by
    intro d
    induction d with
    | zero =>
      intro i hi ol1 od1 us1 dn1 S hl hc
      obtain rfl : i = nc := by omega
      exact br_t (nI_le (by omega) (by omega)) (h _ _ _ _ (zc_SOe hn S hl hc))
    | succ d ih =>
      intro i hi ol1 od1 us1 dn1 S hl hc
      refine br_f (nI_ge (by omega) (by omega)) (zx_best hn ho (fun hno => br_t rfl (nm_r (nI_1 i) (ih (i + 1) (by omega) _ _ _ _ S (by omega) (Or.inr (fun m hm hb' => zc_allD hn ho hp S hno _ m hm rfl hb'))))) (fun m hm hr => ?_))
      have S' := zc_SOs hn ho S hm hr
      have hol : ol1 = i := by
        rcases hc with c | c
        · exact c
        · exact absurd hr.2.1 (c m hm hr.1)
      refine br_f (bz_n1 (by omega)) (And.intro (vp_in_nI (by omega) (by decide)) ?_)
      rw [nI_clamp (show m < 2 ^ 31 by omega), nI_clamp (show ol1 < 2 ^ 31 by omega), bz_b1]
      refine nm_e (nm_r (nI_1 ol1) (And.intro (vp_in_nI (by omega) (by decide)) (nm_e (zx_addUses (by omega) (fun k hk => ⟨(ho m hm k hk).1, (ho m hm k hk).2.1⟩) (nm_r (nI_1 i) (ih (i + 1) (by omega) _ _ _ _ S' (by omega) (Or.inl (by omega))))))))
  unfold wpX_schedule
  dsimp only
  refine zx_markEntry (fun dn1 hd0 hd1 => zx_countUses hb hn hV ho E (fun us1 _ => ⟨_, key nc 0 (by omega) 0 od us1 dn1 ?_ (by omega) (Or.inl rfl)⟩))
  refine ⟨fun j hj => absurd hj (by omega), fun j _ hj => absurd hj (by omega), fun m hm hd => absurd (hd0 m hm) hd, fun m h32 h38 => ?_, fun j hj => absurd hj (by omega)⟩
  rw [hd1 m h32 h38]
  decide
end ZX
end
section
/-! the block's end: homes, the end's node, the variables of the belt -/
section ZX
variable {L VC OB nc bc cl ol : Nat} {f_nodeCap f_blockCap f_phase f_place f_last f_result f_fault f_mFill f_mStore f_mHalt f_mJump f_front f_raw f_ids f_homes f_cellCount : Int32} {ops fA fB fC ow kd en et eu ou vl rn co cx cy cz ct cs be cc od us ce mo dn bu : Nat → Int32}
variable {b hv lo : Nat} {pre : Nat → Int32 × Int32 × Int32 × Int32 × Int32} {I : Nat → Bool} {un : Nat → Nat}
theorem zc_K1 (K : zc_K L OB VC nc b hv) (h : hv < VC) : zc_K L OB VC nc b (hv + 1) := by
  obtain ⟨k1, k2, k3, k4, k5, k6, k7, k8⟩ := K
  exact ⟨k1, k2, k3, k4, k5, k6, k7, h⟩
theorem zc_dec (B : zc_BI L OB VC nc b hv lo ops fA fB fC ow ou pre I un cl co cx cy cz ct us ce mo bu) {p : Nat} (hp : p < 38) (hu : 0 < un p) : zc_BI L OB VC nc b hv lo ops fA fB fC ow ou pre I (fun id => if id = p then un id - 1 else un id) cl co cx cy cz ct (upd us p (nI (un p) - 1)) ce mo bu := by
  refine zc_Tuse B (fun id hid => ?_) (fun id hid => ?_)
  · show (if id = p then _ else _) ≤ _
    split <;> omega
  · show _ = nI (if id = p then _ else _)
    by_cases e : id = p
    · rw [if_pos e, e, pk_us, bz_sub1 hu]
    · rw [if_neg e, pk_un e]; exact (B.2.2.2.2.2.1 id hid).1
theorem zx_stH1 {p : Nat} {post : SX → Prop} (hp : p < 38) (B : zc_BI L OB VC nc b hv lo ops fA fB fC ow ou pre I un cl co cx cy cz ct us ce mo bu) (K : zc_K L OB VC nc b hv) (hcl : cl < 1024) (hu : 0 < un p) (hon : zc_on L mo p) (hs : zm_sr ou b hv = p) (hO : OB ≤ hv) (hV : hv < VC) (hou : ou (b * 6 + hv) ≠ -1)
    (h : ∀ cl1 co1 cx1 cy1 cz1 ct1 us1 ce1 bu1, zc_BI L OB VC nc b (hv + 1) lo ops fA fB fC ow ou pre I (fun id => if id = p then un id - 1 else un id) cl1 co1 cx1 cy1 cz1 ct1 us1 ce1 mo bu1 → cl1 ≤ cl + 1 → post ((nI L), f_nodeCap, f_blockCap, (nI VC), (nI OB), (nI nc), (nI bc), f_phase, f_place, f_last, f_result, f_fault, f_mFill, f_mStore, f_mHalt, f_mJump, (nI cl1), f_front, f_raw, f_ids, f_homes, f_cellCount, (nI ol), ops, fA, fB, fC, ow, kd, en, et, eu, ou, vl, rn, co1, cx1, cy1, cz1, ct1, cs, be, cc, od, us1, ce1, mo, dn, bu1)) :
    wpX_find (fun r => wpX_emit (fun u => wpX_release post u (nI p)) ((nI L), f_nodeCap, f_blockCap, (nI VC), (nI OB), (nI nc), (nI bc), f_phase, f_place, f_last, f_result, f_fault, f_mFill, f_mStore, f_mHalt, f_mJump, (nI cl), f_front, f_raw, f_ids, f_homes, f_cellCount, (nI ol), ops, fA, fB, fC, ow, kd, en, et, eu, ou, vl, rn, co, cx, cy, cz, ct, cs, be, cc, od, (upd us p (nI (un p) - 1)), ce, mo, dn, bu) 17 r (nI hv) 0 (-1)) ((nI L), f_nodeCap, f_blockCap, (nI VC), (nI OB), (nI nc), (nI bc), f_phase, f_place, f_last, f_result, f_fault, f_mFill, f_mStore, f_mHalt, f_mJump, (nI cl), f_front, f_raw, f_ids, f_homes, f_cellCount, (nI ol), ops, fA, fB, fC, ow, kd, en, et, eu, ou, vl, rn, co, cx, cy, cz, ct, cs, be, cc, od, (upd us p (nI (un p) - 1)), ce, mo, dn, bu) (nI p) := by
  have K' := K
  obtain ⟨k1, k2, k3, k4, k5, k6, k7, k8⟩ := K'
  refine zx_find k2 (fun r hr => ?_)
  rcases hr with ⟨rfl, hr⟩ | ⟨i, hi, rfl, hm, _⟩
  · obtain ⟨i, hi, e⟩ := hon
    exact absurd e (hr i hi)
  · have B2 := zc_Thome (zc_dec B hp hu) k2 k5 hi hp hm hs hO hV hou
    exact zx_emit hcl (zx_release hp B2 (zc_K1 K hV) (fun ce1 bu1 B3 => h _ _ _ _ _ _ _ _ _ B3 (by omega)))
theorem zx_storeHome {p : Nat} {post : SX → Prop} (hp : p < 38) (B : zc_BI L OB VC nc b hv lo ops fA fB fC ow ou pre I un cl co cx cy cz ct us ce mo bu) (K : zc_K L OB VC nc b hv) (hcl : cl + 3 ≤ 1024) (hh : zc_hv VC I p) (hu : 0 < un p) (hd : ¬ zm_HD ou b OB hv p) (hs : zm_sr ou b hv = p) (hO : OB ≤ hv) (hV : hv < VC) (hou : ou (b * 6 + hv) ≠ -1)
    (h : ∀ cl1 co1 cx1 cy1 cz1 ct1 us1 ce1 mo1 bu1, zc_BI L OB VC nc b (hv + 1) lo ops fA fB fC ow ou pre I (fun id => if id = p then un id - 1 else un id) cl1 co1 cx1 cy1 cz1 ct1 us1 ce1 mo1 bu1 → cl1 ≤ cl + 3 → post ((nI L), f_nodeCap, f_blockCap, (nI VC), (nI OB), (nI nc), (nI bc), f_phase, f_place, f_last, f_result, f_fault, f_mFill, f_mStore, f_mHalt, f_mJump, (nI cl1), f_front, f_raw, f_ids, f_homes, f_cellCount, (nI ol), ops, fA, fB, fC, ow, kd, en, et, eu, ou, vl, rn, co1, cx1, cy1, cz1, ct1, cs, be, cc, od, us1, ce1, mo1, dn, bu1)) : wpX_storeHome post ((nI L), f_nodeCap, f_blockCap, (nI VC), (nI OB), (nI nc), (nI bc), f_phase, f_place, f_last, f_result, f_fault, f_mFill, f_mStore, f_mHalt, f_mJump, (nI cl), f_front, f_raw, f_ids, f_homes, f_cellCount, (nI ol), ops, fA, fB, fC, ow, kd, en, et, eu, ou, vl, rn, co, cx, cy, cz, ct, cs, be, cc, od, us, ce, mo, dn, bu) (nI p) (nI hv) := by
  have K' := K
  obtain ⟨k1, k2, k3, k4, k5, k6, k7, k8⟩ := K'
  have hi : vp_in (nI p) 38 := vp_in_nI hp (by decide)
  have hcp : (nI p).toNatClampNeg = p := nI_clamp (by omega)
  unfold wpX_storeHome
  dsimp only
  refine zx_fetch hp B K (by omega) hh hu hd (fun hon => ?_) (fun cl1 co1 cx1 cy1 cz1 ct1 ce1 mo1 bu1 hl1 hl2 B1 hno hmo => ?_)
  · dsimp only
    rw [hcp, (B.2.2.2.2.2.1 p hp).1]
    exact And.intro hi (And.intro hi (nm_e (zx_stH1 hp B K (by omega) hu hon hs hO hV hou (fun cl2 co2 cx2 cy2 cz2 ct2 us2 ce2 bu2 B2 hl => h _ _ _ _ _ _ _ _ _ _ B2 (by omega)))))
  · dsimp only
    rw [hcp, (B.2.2.2.2.2.1 p hp).1]
    exact And.intro hi (And.intro hi (nm_e (zx_stH1 hp B1 K (by omega) hu ⟨0, by omega, hmo 0 (by omega)⟩ hs hO hV hou (fun cl2 co2 cx2 cy2 cz2 ct2 us2 ce2 bu2 B2 hl => h _ _ _ _ _ _ _ _ _ _ B2 (by omega)))))
theorem zx_car29 {p : Nat} {post : SX → Prop} (hp : p < 38) (B : zc_BI L OB VC nc b hv lo ops fA fB fC ow ou pre I un cl co cx cy cz ct us ce mo bu) (K : zc_K L OB VC nc b hv) (hcl : cl < 1024) (hav : zc_on L mo p ∨ ce p ≠ -1) (SF : zc_SF L VC I un mo ce p) (hd : ¬ zm_HD ou b OB hv p)
    (h : ∀ cl1 co1 cx1 cy1 cz1 ct1 ce1 mo1 bu1, zc_BI L OB VC nc b hv lo ops fA fB fC ow ou pre I un cl1 co1 cx1 cy1 cz1 ct1 us ce1 mo1 bu1 → cl1 ≤ cl + 1 → (∀ i, i < L → mo1 i = zm_sh (nI p) mo i) → post ((nI L), f_nodeCap, f_blockCap, (nI VC), (nI OB), (nI nc), (nI bc), f_phase, f_place, f_last, f_result, f_fault, f_mFill, f_mStore, f_mHalt, f_mJump, (nI cl1), f_front, f_raw, f_ids, f_homes, f_cellCount, (nI ol), ops, fA, fB, fC, ow, kd, en, et, eu, ou, vl, rn, co1, cx1, cy1, cz1, ct1, cs, be, cc, od, us, ce1, mo1, dn, bu1)) : wX_carry_29 post (nI p) (nI L) f_nodeCap f_blockCap (nI VC) (nI OB) (nI nc) (nI bc) f_phase f_place f_last f_result f_fault f_mFill f_mStore f_mHalt f_mJump (nI cl) f_front f_raw f_ids f_homes f_cellCount (nI ol) ops fA fB fC ow kd en et eu ou vl rn co cx cy cz ct cs be cc od us ce mo dn bu := by
  have K' := K
  obtain ⟨k1, k2, k3, k4, k5, k6, k7, k8⟩ := K'
  unfold wX_carry_29
  refine zx_copy (I := I) hp (Or.inl rfl) K hcl B.2.2.2.2.1 hav hd ?_
  intro op x h17 hok hres
  refine zx_push (by omega) k2 (fun mo1 hmo => ?_)
  exact zx_release hp (zc_Tdrop B k1 SF hp h17 hok hres (Or.inl ⟨rfl, rfl⟩) hmo) K (fun ce1 bu1 B3 => h _ _ _ _ _ _ _ _ _ B3 (by omega) hmo)
theorem zx_carry {p : Nat} {post : SX → Prop} (hp : p < 38) (B : zc_BI L OB VC nc b hv lo ops fA fB fC ow ou pre I un cl co cx cy cz ct us ce mo bu) (K : zc_K L OB VC nc b hv) (hcl : cl + 2 ≤ 1024) (hh : zc_hv VC I p) (hu : 0 < un p) (hd : ¬ zm_HD ou b OB hv p)
    (h : ∀ cl1 co1 cx1 cy1 cz1 ct1 us1 ce1 mo1 bu1, zc_BI L OB VC nc b hv lo ops fA fB fC ow ou pre I (fun id => if id = p then un id - 1 else un id) cl1 co1 cx1 cy1 cz1 ct1 us1 ce1 mo1 bu1 → cl1 ≤ cl + 2 → (∀ i, i < L → mo1 i = zm_sh (nI p) mo i) → post ((nI L), f_nodeCap, f_blockCap, (nI VC), (nI OB), (nI nc), (nI bc), f_phase, f_place, f_last, f_result, f_fault, f_mFill, f_mStore, f_mHalt, f_mJump, (nI cl1), f_front, f_raw, f_ids, f_homes, f_cellCount, (nI ol), ops, fA, fB, fC, ow, kd, en, et, eu, ou, vl, rn, co1, cx1, cy1, cz1, ct1, cs, be, cc, od, us1, ce1, mo1, dn, bu1)) : wpX_carry post ((nI L), f_nodeCap, f_blockCap, (nI VC), (nI OB), (nI nc), (nI bc), f_phase, f_place, f_last, f_result, f_fault, f_mFill, f_mStore, f_mHalt, f_mJump, (nI cl), f_front, f_raw, f_ids, f_homes, f_cellCount, (nI ol), ops, fA, fB, fC, ow, kd, en, et, eu, ou, vl, rn, co, cx, cy, cz, ct, cs, be, cc, od, us, ce, mo, dn, bu) (nI p) := by
  have K' := K
  obtain ⟨k1, k2, k3, k4, k5, k6, k7, k8⟩ := K'
  have hi : vp_in (nI p) 38 := vp_in_nI hp (by decide)
  have e : nI L - 1 = nI (L - 1) := bz_sub1 (by omega)
  have B1 := zc_dec B hp hu
  have hav := B.2.2.2.2.2.2 p hp hh hu
  unfold wpX_carry
  dsimp only
  rw [nI_clamp (show p < 2 ^ 31 by omega), e, nI_clamp (show L - 1 < 2 ^ 31 by omega), (B.2.2.2.2.2.1 p hp).1]
  refine And.intro hi (And.intro hi (nm_e (And.intro (vp_in_nI (by omega) (by decide)) (br_c (fun e1 => ?_) (fun e1 => ?_)))))
  · refine zx_car29 hp B1 K (by omega) hav ?_ hd (fun cl2 co2 cx2 cy2 cz2 ct2 ce2 mo2 bu2 B2 hl hmo => h _ _ _ _ _ _ _ _ _ _ B2 (by omega) hmo)
    intro id hid hne hm
    exact absurd (bz_inj (hm.symm.trans e1) (by omega) (by omega)) hne
  · refine zx_save B1 K (by omega) ?_
    intro cl2 co2 cx2 cy2 cz2 ct2 ce2 bu2 hl1 hl2 B2 SF hk
    refine zx_car29 hp B2 K (by omega) ?_ (SF p) hd (fun cl2 co2 cx2 cy2 cz2 ct2 ce2 mo2 bu2 B2 hl hmo => h _ _ _ _ _ _ _ _ _ _ B2 (by omega) hmo)
    rcases hav with z | z
    · exact Or.inl z
    · exact Or.inr (hk p hp z)
theorem zc_RVm {ou : Nat → Int32} {b id : Nat} : ∀ {i j : Nat}, i ≤ j → zc_RV ou b id i ≤ zc_RV ou b id j := by
  intro i j h
  induction j with
  | zero => rw [show i = 0 by omega]; exact Nat.le_refl _
  | succ j ih =>
    by_cases e : i = j + 1
    · rw [e]; exact Nat.le_refl _
    · exact Nat.le_trans (ih (by omega)) (Nat.le_add_right _ _)
theorem zc_RVs {ou : Nat → Int32} {b id v : Nat} : zc_RV ou b id (v + 1) = zc_RV ou b id v + (if zm_sr ou b v = id then 1 else 0) := rfl
/-- the last loop: variables j - 1 .. 0 are still to be carried -/
theorem zx_set77 {post : SX → Prop} (K : zc_K L OB VC nc b hv) (E : zc_EG VC nc ow kd en ou b) (hI : ∀ m, m < nc → ow m = nI b → I m = true) {cl0 : Nat} (hro : cl0 + 2 * OB + 1 ≤ 1024)
    (h : ∀ un1 cl1 co1 cx1 cy1 cz1 ct1 us1 ce1 mo1 bu1, zc_BI L OB VC nc b hv lo ops fA fB fC ow ou pre I un1 cl1 co1 cx1 cy1 cz1 ct1 us1 ce1 mo1 bu1 → cl1 ≤ cl0 + 2 * OB → (∀ i, i < OB → mo1 i = nI (zm_sr ou b i)) → (kd b ≠ 1 → mo1 OB = en b) → post ((nI L), f_nodeCap, f_blockCap, (nI VC), (nI OB), (nI nc), (nI bc), f_phase, f_place, f_last, f_result, f_fault, f_mFill, f_mStore, f_mHalt, f_mJump, (nI (cl1 + 1)), f_front, f_raw, f_ids, f_homes, f_cellCount, (nI ol), ops, fA, fB, fC, ow, kd, en, et, eu, ou, vl, rn, (upd co1 cl1 (18 + kd b)), (upd cx1 cl1 (nI OB)), (upd cy1 cl1 (et b)), (upd cz1 cl1 (eu b)), (upd ct1 cl1 (-1)), cs, be, cc, od, us1, ce1, mo1, dn, bu1)) :
    ∀ j, j ≤ OB → ∀ un1 cl1 co1 cx1 cy1 cz1 ct1 us1 ce1 mo1 bu1, zc_BI L OB VC nc b hv lo ops fA fB fC ow ou pre I un1 cl1 co1 cx1 cy1 cz1 ct1 us1 ce1 mo1 bu1 → cl1 + 2 * j ≤ cl0 + 2 * OB → (∀ id, id < 38 → zc_RV ou b id j ≤ un1 id) → (∀ i, i + j < OB → mo1 i = nI (zm_sr ou b (i + j))) → (kd b ≠ 1 → mo1 (OB - j) = en b) → wX_settle_77 post (nI b) (j + 1) (nI j + (-1)) (nI L) f_nodeCap f_blockCap (nI VC) (nI OB) (nI nc) (nI bc) f_phase f_place f_last f_result f_fault f_mFill f_mStore f_mHalt f_mJump (nI cl1) f_front f_raw f_ids f_homes f_cellCount (nI ol) ops fA fB fC ow kd en et eu ou vl rn co1 cx1 cy1 cz1 ct1 cs be cc od us1 ce1 mo1 dn bu1 := by
  have K' := K
  obtain ⟨k1, k2, k3, k4, k5, k6, k7, k8⟩ := K'
  have hb6 : vp_in (nI b) 6 := vp_in_nI k7 (by decide)
  intro j
  induction j with
  | zero =>
    intro hj un1 cl1 co1 cx1 cy1 cz1 ct1 us1 ce1 mo1 bu1 B hl hu hm he
    refine br_t (show (nI 0 + (-1) : Int32) < 0 by decide) ?_
    rw [nI_clamp (show b < 2 ^ 31 by omega)]
    exact And.intro hb6 (And.intro hb6 (And.intro hb6 (zx_emit (by omega) (h _ _ _ _ _ _ _ _ _ _ _ B (by omega) (fun i hi => hm i (by omega)) he))))
  | succ j ih =>
    intro hj un1 cl1 co1 cx1 cy1 cz1 ct1 us1 ce1 mo1 bu1 B hl hu hm he
    obtain ⟨s1, s2, s3, s4⟩ := zc_EGs E k6 k5 (v := j) (by omega)
    have hpos : 0 < un1 (zm_sr ou b j) := by
      have := hu _ s2
      rw [zc_RVs, if_pos rfl] at this
      omega
    rw [pk_m1 j]
    refine br_f (nI_pos (by omega)) (zx_source k7 (by omega) ?_)
    rw [s1]
    refine zx_carry s2 B K (by omega) ?_ hpos ?_ ?_
    · by_cases c : ou (b * 6 + j) = -1
      · right
        have := s3 c
        omega
      · left
        obtain ⟨z1, z2, _⟩ := s4 c
        exact hI _ z1 z2
    · intro z
      have z1 := z.1
      by_cases c : ou (b * 6 + j) = -1
      · have := s3 c
        omega
      · have := (s4 c).1
        omega
    · intro cl2 co2 cx2 cy2 cz2 ct2 us2 ce2 mo2 bu2 B2 hl2 hmo
      refine nm_e (ih (by omega) _ _ _ _ _ _ _ _ _ _ _ B2 (by omega) (fun id hid => ?_) (fun i hi => ?_) (fun hk => ?_))
      · have := hu id hid
        rw [zc_RVs] at this
        show _ ≤ (if id = zm_sr ou b j then _ else _)
        by_cases c : id = zm_sr ou b j
        · rw [if_pos c]
          rw [if_pos c.symm] at this
          omega
        · rw [if_neg c]
          rw [if_neg (fun z => c z.symm)] at this
          exact this
      · rw [hmo i (by omega)]
        unfold zm_sh
        by_cases c : i = 0
        · rw [if_pos c, c, Nat.zero_add]
        · rw [if_neg c, hm (i - 1) (by omega), show i - 1 + (j + 1) = i + j by omega]
      · rw [hmo (OB - j) (by omega)]
        unfold zm_sh
        rw [if_neg (by omega), show OB - j - 1 = OB - (j + 1) by omega]
        exact he hk
theorem zx_settle {post : SX → Prop} (B : zc_BI L OB VC nc b hv lo ops fA fB fC ow ou pre I un cl co cx cy cz ct us ce mo bu) (K : zc_K L OB VC nc b hv) (hh : hv = OB) (h1 : 1 ≤ OB) (E : zc_EG VC nc ow kd en ou b) (hI : ∀ m, m < nc → ow m = nI b → I m = true) (hro : cl + 21 ≤ 1024) (hu : ∀ id, id < 38 → zc_RV ou b id VC + zc_RE kd en b id ≤ un id)
    (h : ∀ un1 cl1 co1 cx1 cy1 cz1 ct1 us1 ce1 mo1 bu1, zc_BI L OB VC nc b VC lo ops fA fB fC ow ou pre I un1 cl1 co1 cx1 cy1 cz1 ct1 us1 ce1 mo1 bu1 → cl1 ≤ cl + 20 → (∀ i, i < OB → mo1 i = nI (zm_sr ou b i)) → (kd b ≠ 1 → mo1 OB = en b) → post ((nI L), f_nodeCap, f_blockCap, (nI VC), (nI OB), (nI nc), (nI bc), f_phase, f_place, f_last, f_result, f_fault, f_mFill, f_mStore, f_mHalt, f_mJump, (nI (cl1 + 1)), f_front, f_raw, f_ids, f_homes, f_cellCount, (nI ol), ops, fA, fB, fC, ow, kd, en, et, eu, ou, vl, rn, (upd co1 cl1 (18 + kd b)), (upd cx1 cl1 (nI OB)), (upd cy1 cl1 (et b)), (upd cz1 cl1 (eu b)), (upd ct1 cl1 (-1)), cs, be, cc, od, us1, ce1, mo1, dn, bu1)) : wpX_settle post ((nI L), f_nodeCap, f_blockCap, (nI VC), (nI OB), (nI nc), (nI bc), f_phase, f_place, f_last, f_result, f_fault, f_mFill, f_mStore, f_mHalt, f_mJump, (nI cl), f_front, f_raw, f_ids, f_homes, f_cellCount, (nI ol), ops, fA, fB, fC, ow, kd, en, et, eu, ou, vl, rn, co, cx, cy, cz, ct, cs, be, cc, od, us, ce, mo, dn, bu) (nI b) := by
  have K' := K
  obtain ⟨k1, k2, k3, k4, k5, k6, k7, k8⟩ := K'
  have hb6 : vp_in (nI b) 6 := vp_in_nI k7 (by decide)
  have key : ∀ d v, v + d = VC → OB ≤ v → ∀ un1 cl1 co1 cx1 cy1 cz1 ct1 us1 ce1 mo1 bu1, zc_BI L OB VC nc b v lo ops fA fB fC ow ou pre I un1 cl1 co1 cx1 cy1 cz1 ct1 us1 ce1 mo1 bu1 → cl1 ≤ cl + 3 * (v - OB) → (∀ id, id < 38 → zc_RV ou b id OB + zc_RE kd en b id + (zc_RV ou b id VC - zc_RV ou b id v) ≤ un1 id) → wX_settle_5 post (nI b) (d + 1) (nI v) (nI L) f_nodeCap f_blockCap (nI VC) (nI OB) (nI nc) (nI bc) f_phase f_place f_last f_result f_fault f_mFill f_mStore f_mHalt f_mJump (nI cl1) f_front f_raw f_ids f_homes f_cellCount (nI ol) ops fA fB fC ow kd en et eu ou vl rn co1 cx1 cy1 cz1 ct1 cs be cc od us1 ce1 mo1 dn bu1 := by
    intro d
    induction d with
    | zero =>
      intro v hv' hO un1 cl1 co1 cx1 cy1 cz1 ct1 us1 ce1 mo1 bu1 B1 hl hu1
      obtain rfl : v = VC := by omega
      have Kv : zc_K L OB v nc b v := ⟨k1, k2, k3, k4, k5, k6, k7, Nat.le_refl _⟩
      have eo : nI OB - 1 = nI OB + (-1) := by rw [bz_sub1 h1, bz_dec h1]
      refine br_t (nI_le (by omega) (by omega)) (And.intro hb6 ?_)
      rw [nI_clamp (show b < 2 ^ 31 by omega)]
      refine br_c (fun e => ?_) (fun e => And.intro hb6 ?_)
      · refine nm_r eo ⟨_, zx_set77 (cl0 := cl1) Kv E hI (by omega) (fun un2 cl2 co2 cx2 cy2 cz2 ct2 us2 ce2 mo2 bu2 B2 hl2 => h _ _ _ _ _ _ _ _ _ _ _ B2 (by omega)) OB (Nat.le_refl _) _ _ _ _ _ _ _ _ _ _ _ B1 (by omega) (fun id hid => ?_) (fun i hi => absurd hi (by omega)) (fun z => absurd e z)⟩
        have := hu1 id hid
        omega
      · obtain ⟨m, hm, e2, hmb⟩ := E.2 e
        have hre : zc_RE kd en b m = 1 := by
          unfold zc_RE
          rw [if_neg e, if_pos e2]
        have hpos : 0 < un1 m := by
          have := hu1 m (by omega)
          omega
        rw [e2]
        refine zx_carry (by omega) B1 Kv (by omega) (Or.inl (hI m hm hmb)) hpos (fun z => by have := z.1; omega) ?_
        intro cl2 co2 cx2 cy2 cz2 ct2 us2 ce2 mo2 bu2 B2 hl2 hmo
        refine nm_r eo ⟨_, zx_set77 (cl0 := cl2) Kv E hI (by omega) (fun un3 cl3 co3 cx3 cy3 cz3 ct3 us3 ce3 mo3 bu3 B3 hl3 => h _ _ _ _ _ _ _ _ _ _ _ B3 (by omega)) OB (Nat.le_refl _) _ _ _ _ _ _ _ _ _ _ _ B2 (by omega) (fun id hid => ?_) (fun i hi => absurd hi (by omega)) (fun _ => ?_)⟩
        · have h2 := hu1 id hid
          show _ ≤ (if id = m then _ else _)
          by_cases c : id = m
          · rw [if_pos c]
            rw [c] at h2 ⊢
            omega
          · rw [if_neg c]
            omega
        · rw [Nat.sub_self, hmo 0 (by omega), e2]
          rfl
    | succ d ih =>
      intro v hv' hO un1 cl1 co1 cx1 cy1 cz1 ct1 us1 ce1 mo1 bu1 B1 hl hu1
      have Kv : zc_K L OB VC nc b v := ⟨k1, k2, k3, k4, k5, k6, k7, by omega⟩
      have hi36 : vp_in (nI (b * 6 + v)) 36 := vp_in_nI (by omega) (by decide)
      obtain ⟨s1, s2, s3, s4⟩ := zc_EGs E k6 k5 (v := v) (by omega)
      refine br_f (nI_ge (by omega) (by omega)) ?_
      rw [bz_6, nI_clamp (show b * 6 + v < 2 ^ 31 by omega)]
      refine And.intro hi36 (br_c (fun e => nm_r (nI_1 v) (ih (v + 1) (by omega) (by omega) _ _ _ _ _ _ _ _ _ _ _ (zc_Tskip B1 e) (by omega) (fun id hid => ?_))) (fun e => And.intro hi36 ?_))
      · have h2 := hu1 id hid
        have h3 := zc_RVm (ou := ou) (b := b) (id := id) (i := v) (j := v + 1) (by omega)
        omega
      · obtain ⟨z1, z2, z3⟩ := s4 e
        have hpos : 0 < un1 (zm_sr ou b v) := by
          have h2 := hu1 _ s2
          have h3 := zc_RVm (ou := ou) (b := b) (id := zm_sr ou b v) (i := v + 1) (j := VC) (by omega)
          rw [zc_RVs, if_pos rfl] at h3
          omega
        rw [z3]
        refine zx_storeHome s2 B1 Kv (by omega) (Or.inl (hI _ z1 z2)) hpos (fun z => by have := z.1; omega) rfl hO (by omega) e ?_
        intro cl2 co2 cx2 cy2 cz2 ct2 us2 ce2 mo2 bu2 B2 hl2
        refine nm_r (nI_1 v) (ih (v + 1) (by omega) (by omega) _ _ _ _ _ _ _ _ _ _ _ B2 (by omega) (fun id hid => ?_))
        have h2 := hu1 id hid
        have h3 := zc_RVm (ou := ou) (b := b) (id := id) (i := v + 1) (j := VC) (by omega)
        rw [zc_RVs] at h3 ⊢
        show _ ≤ (if id = zm_sr ou b v then _ else _)
        by_cases c : id = zm_sr ou b v
        · rw [if_pos c]
          rw [if_pos c.symm] at h3 ⊢
          omega
        · rw [if_neg c]
          rw [if_neg (fun z => c z.symm)] at h3 ⊢
          omega
  refine ⟨_, key (VC - OB) OB (by omega) (Nat.le_refl _) _ _ _ _ _ _ _ _ _ _ _ (hh ▸ B) (by omega) (fun id hid => ?_)⟩
  have h2 := hu id hid
  have h3 := zc_RVm (ou := ou) (b := b) (id := id) (i := OB) (j := VC) k4
  omega
end ZX
end
section
/-! code for one block -/
def zr_exit (OB VC nc b : Nat) (ow kd en ou : Nat → Int32) (V : Nat → Int32) (m0 m : zm_M) : Prop :=
  (∀ v, v < OB → m.1 v = V (zm_sr ou b v)) ∧ (kd b ≠ 1 → m.1 OB = V (en b).toNatClampNeg) ∧ (∀ v, OB ≤ v → v < VC → m.2.1 v = V (zm_sr ou b v)) ∧
  (∀ n, (n < nc ∧ ow n = nI b → m.2.2 n = V n) ∧ (¬ (n < nc ∧ ow n = nI b) → m.2.2 n = m0.2.2 n))
def zr_code (L OB VC nc : Nat) (ops fA fB fC ow kd en et eu ou co cx cy cz ct cs : Nat → Int32) (b top : Nat) : Prop :=
  ∃ lo n, lo + n + 1 ≤ top ∧ cs b = nI lo ∧ cs (b + 1) = nI (lo + n + 1) ∧ (∀ i, i < n → zm_okI L (co (lo + i)) (cx (lo + i)) (cy (lo + i)) (cz (lo + i)) (ct (lo + i))) ∧
    co (lo + n) = 18 + kd b ∧ cx (lo + n) = nI OB ∧ cy (lo + n) = et b ∧ cz (lo + n) = eu b ∧
    ∀ (V : Nat → Int32) (m0 : zm_M), zm_Eq ops fA fB fC ow nc b V → zm_En OB VC V m0 → zr_exit OB VC nc b ow kd en ou V m0 (zm_exe co cx cy cz ct lo n m0)
def zr_cnt (ow : Nat → Int32) (nc b : Nat) : Nat := zb_sm (fun n => if (ow n).toNatClampNeg < b then 1 else 0) nc
theorem zb_smL {f g : Nat → Nat} : ∀ n, (∀ i, i < n → f i ≤ g i) → zb_sm f n ≤ zb_sm g n
  | 0, _ => Nat.le_refl 0
  | n + 1, h => by
    have h1 := zb_smL n (fun i hi => h i (by omega))
    have h2 := h n (by omega)
    show zb_sm f n + f n ≤ zb_sm g n + g n
    omega
theorem zb_smA {f g : Nat → Nat} : ∀ n, zb_sm (fun i => f i + g i) n = zb_sm f n + zb_sm g n
  | 0 => rfl
  | n + 1 => by
    show zb_sm (fun i => f i + g i) n + (f n + g n) = zb_sm f n + f n + (zb_sm g n + g n)
    rw [zb_smA n]
    omega
theorem zr_cntI {ow : Nat → Int32} {nc b : Nat} {I : Nat → Bool} (hb : b < 6) (hI : ∀ m, I m = true → ow m = nI b) : zb_sm (fun n => if I n = true then 1 else 0) nc + zr_cnt ow nc b ≤ zr_cnt ow nc (b + 1) := by
  unfold zr_cnt
  rw [← zb_smA]
  refine zb_smL nc (fun i _ => ?_)
  show (if I i = true then 1 else 0) + (if (ow i).toNatClampNeg < b then 1 else 0) ≤ (if (ow i).toNatClampNeg < b + 1 then 1 else 0)
  by_cases c : I i = true
  · rw [if_pos c, hI i c, nI_clamp (by omega), if_neg (by omega), if_pos (by omega)]
    omega
  · rw [if_neg c]
    split
    · rw [if_pos (by omega)]; omega
    · split <;> omega
theorem zr_cntN {ow : Nat → Int32} {nc b : Nat} : zr_cnt ow nc b ≤ nc := by
  have := zb_smB (f := fun n => if (ow n).toNatClampNeg < b then 1 else 0) (c := 1) nc (fun i _ => by
    show (if _ then _ else 0) ≤ 1
    split <;> omega)
  show zb_sm _ nc ≤ nc
  omega
section ZR
variable {L OB VC nc b top : Nat} {ops fA fB fC ow kd en et eu ou co cx cy cz ct cs co' cx' cy' cz' ct' cs' : Nat → Int32}
theorem zr_codeC {top' : Nat} (h : zr_code L OB VC nc ops fA fB fC ow kd en et eu ou co cx cy cz ct cs b top) (ht : top ≤ top') (hc : ∀ i, i < top → co' i = co i ∧ cx' i = cx i ∧ cy' i = cy i ∧ cz' i = cz i ∧ ct' i = ct i) (h1 : cs' b = cs b) (h2 : cs' (b + 1) = cs (b + 1)) : zr_code L OB VC nc ops fA fB fC ow kd en et eu ou co' cx' cy' cz' ct' cs' b top' := by
  obtain ⟨lo, n, g1, g2, g3, g4, g5, g6, g7, g8, g9⟩ := h
  obtain ⟨e1, e2, e3, e4, e5⟩ := hc (lo + n) (by omega)
  refine ⟨lo, n, by omega, h1.trans g2, h2.trans g3, fun i hi => ?_, e1.trans g5, e2.trans g6, e3.trans g7, e4.trans g8, fun V m0 hV hE => ?_⟩
  · obtain ⟨f1, f2, f3, f4, f5⟩ := hc (lo + i) (by omega)
    rw [f1, f2, f3, f4, f5]
    exact g4 i hi
  · rw [zm_exeC (co := co) (cx := cx) (cy := cy) (cz := cz) (ct := ct) n (fun i hi => hc (lo + i) (by omega))]
    exact g9 V m0 hV hE
end ZR
section ZX
variable {L VC OB nc bc cl ol : Nat} {f_nodeCap f_blockCap f_phase f_place f_last f_result f_fault f_mFill f_mStore f_mHalt f_mJump f_front f_raw f_ids f_homes f_cellCount : Int32} {ops fA fB fC ow kd en et eu ou vl rn co cx cy cz ct cs be cc od us ce mo dn bu : Nat → Int32}
variable {b hv lo : Nat} {pre : Nat → Int32 × Int32 × Int32 × Int32 × Int32} {I : Nat → Bool} {un : Nat → Nat}
/-- the picture at a block's entry -/
theorem zc_B0 (K : zc_K L OB VC nc b OB) (hm : ∀ i, i < L → mo i = if i < OB then nI (32 + i) else -1) (hc : ∀ id, id < 38 → ce id = if 32 + OB ≤ id ∧ id < 32 + VC then nI (id - 32) else -1) (hb : ∀ c, c < 44 → bu c = 0) (hu : ∀ id, id < 38 → us id = nI (un id) ∧ un id ≤ 200) : zc_BI L OB VC nc b OB cl ops fA fB fC ow ou (fun i => (co i, cx i, cy i, cz i, ct i)) (fun _ => false) un cl co cx cy cz ct us ce mo bu := by
  obtain ⟨k1, k2, k3, k4, k5, k6, k7, k8⟩ := K
  have hce : ∀ id, id < 38 → ∀ c, c < 44 → ce id = nI c → OB ≤ c ∧ c < VC ∧ id = 32 + c := by
    intro id hid c hc' e
    rw [hc id hid] at e
    by_cases z : 32 + OB ≤ id ∧ id < 32 + VC
    · rw [if_pos z] at e
      have := bz_inj e (by omega) (by omega)
      omega
    · rw [if_neg z] at e
      exact absurd e (bz_m1n (by omega))
  refine ⟨⟨fun i hi => absurd hi (by omega), fun V m0 hV hE => ?_⟩, Nat.le_refl _, fun i _ => rfl, fun i hi => ?_, ⟨fun id hid => ?_, fun id id' hid hid' e hn => ?_, fun c h6 h44 => Or.inl (hb c h44), fun v h1 h2 => ?_⟩, hu, fun id hid hh hu' => ?_⟩
  · rw [Nat.sub_self]
    refine ⟨fun i hi id hid e => ?_, fun id hid c hc' e _ => ?_, fun n => ⟨fun z => absurd z Bool.false_ne_true, fun _ => rfl⟩, fun v z => ?_⟩
    · rw [hm i hi] at e
      by_cases z : i < OB
      · rw [if_pos z] at e
        rw [← bz_inj e (by omega) (by omega)]
        exact hE.1 i z
      · rw [if_neg z] at e
        exact absurd e (bz_m1n (by omega))
    · obtain ⟨z1, z2, z3⟩ := hce id hid c hc' e
      rw [z3]
      exact hE.2 c z1 z2
    · have := z.1
      have := z.2.1
      omega
  · rw [hm i hi]
    by_cases z : i < OB
    · rw [if_pos z]; exact Or.inr (zb_INof (by omega))
    · rw [if_neg z]; exact Or.inl rfl
  · by_cases z : 32 + OB ≤ id ∧ id < 32 + VC
    · exact Or.inr ⟨id - 32, by rw [hc id hid, if_pos z], Or.inr (by omega)⟩
    · exact Or.inl (by rw [hc id hid, if_neg z])
  · by_cases z : 32 + OB ≤ id ∧ id < 32 + VC
    · rw [hc id hid, if_pos z] at e
      have := hce id' hid' (id - 32) (by omega) e.symm
      omega
    · rw [hc id hid, if_neg z] at hn
      exact absurd rfl hn
  · rw [hc _ (by omega), if_pos (by omega), Nat.add_sub_cancel_left]
  · rcases hh with z | z
    · exact nomatch z
    · by_cases c : id < 32 + OB
      · refine Or.inl ⟨id - 32, by omega, ?_⟩
        rw [hm _ (by omega), if_pos (by omega), show 32 + (id - 32) = id by omega]
      · refine Or.inr ?_
        rw [hc id hid, if_pos (by omega)]
        exact bz_n1 (by omega)
/-- the block's code does what the block says -/
theorem zc_fin {cl0 : Nat} (B : zc_BI L OB VC nc b VC cl0 ops fA fB fC ow ou pre I un cl co cx cy cz ct us ce mo bu) (K : zc_K L OB VC nc b OB) (E : zc_EG VC nc ow kd en ou b) (hI : ∀ m, I m = true ↔ (m < nc ∧ ow m = nI b)) (hm : ∀ i, i < OB → mo i = nI (zm_sr ou b i)) (he : kd b ≠ 1 → mo OB = en b) (hcs : cs b = nI cl0) (hcl : cl < 1024) :
    zr_code L OB VC nc ops fA fB fC ow kd en et eu ou (upd co cl (18 + kd b)) (upd cx cl (nI OB)) (upd cy cl (et b)) (upd cz cl (eu b)) (upd ct cl (-1)) (upd cs (b + 1) (nI (cl + 1))) b (cl + 1) := by
  obtain ⟨k1, k2, k3, k4, k5, k6, k7, k8⟩ := K
  obtain ⟨⟨b1, b2⟩, b3, b4, b5, b6, b7, b8⟩ := B
  refine ⟨cl0, cl - cl0, by omega, by rw [pk_un (by omega)]; exact hcs, by rw [pk_us, show cl0 + (cl - cl0) + 1 = cl + 1 by omega], fun i hi => ?_, ?_, ?_, ?_, ?_, fun V m0 hV hE => ?_⟩
  · have e : cl0 + i ≠ cl := by omega
    rw [pk_un e, pk_un e, pk_un e, pk_un e, pk_un e]
    exact b1 i hi
  · rw [show cl0 + (cl - cl0) = cl by omega, pk_us]
  · rw [show cl0 + (cl - cl0) = cl by omega, pk_us]
  · rw [show cl0 + (cl - cl0) = cl by omega, pk_us]
  · rw [show cl0 + (cl - cl0) = cl by omega, pk_us]
  · rw [zm_exeC (co := co) (cx := cx) (cy := cy) (cz := cz) (ct := ct) (cl - cl0) (fun i hi => by
      have e : cl0 + i ≠ cl := by omega
      exact ⟨pk_un e, pk_un e, pk_un e, pk_un e, pk_un e⟩)]
    obtain ⟨s1, s2, s3, s4⟩ := b2 V m0 hV hE
    refine ⟨fun v hv' => ?_, fun hk => ?_, fun v h1 h2 => ?_, fun n => ?_⟩
    · obtain ⟨_, g2, _⟩ := zc_EGs E k6 k5 (v := v) (by omega)
      exact s1 v (by omega) _ g2 (hm v hv')
    · obtain ⟨m, hm', e2, _⟩ := E.2 hk
      rw [e2, nI_clamp (by omega)]
      exact s1 OB (by omega) m (by omega) ((he hk).trans e2)
    · obtain ⟨_, _, g3, _⟩ := zc_EGs E k6 k5 (v := v) (by omega)
      by_cases c : ou (b * 6 + v) = -1
      · rw [g3 c]
        refine s2 (32 + v) (by omega) v (by omega) (b6.2.2.2 v h1 h2) (fun z => ?_)
        have := z.2.2
        rw [Nat.add_sub_cancel_left] at this
        exact this c
      · refine s4 v ⟨by omega, by omega, ?_⟩
        rw [Nat.add_sub_cancel_left]
        exact c
    · refine ⟨fun z => (s3 n).1 ((hI n).mpr z), fun z => (s3 n).2 ?_⟩
      cases hc : I n with
      | false => rfl
      | true => exact absurd ((hI n).mp hc) z
theorem zx_gen16 {cl0 : Nat} {post : SX → Prop} (K : zc_K L OB VC nc b OB) (h1 : 1 ≤ OB) (ho : zp_OK VC nc ops fA fB fC ow) (hw : ∀ n, n < nc → ∃ j, j < 16 ∧ ops n = nI j) (E : zc_EG VC nc ow kd en ou b) (R : zc_OR nc b ops fA fB fC ow ol od) (hcl : cl0 ≤ 20 * zr_cnt ow nc b + 21 * b) (hcs : cs b = nI cl0)
    (h : ∀ cl1 co1 cx1 cy1 cz1 ct1 us1 ce1 mo1 bu1, cl1 ≤ 20 * zr_cnt ow nc (b + 1) + 21 * (b + 1) → (∀ i, i < cl0 → pre i = (co1 i, cx1 i, cy1 i, cz1 i, ct1 i)) → cl0 ≤ cl1 → zr_code L OB VC nc ops fA fB fC ow kd en et eu ou co1 cx1 cy1 cz1 ct1 (upd cs (b + 1) (nI cl1)) b cl1 → post ((nI L), f_nodeCap, f_blockCap, (nI VC), (nI OB), (nI nc), (nI bc), f_phase, f_place, f_last, f_result, f_fault, f_mFill, f_mStore, f_mHalt, f_mJump, (nI cl1), f_front, f_raw, f_ids, f_homes, f_cellCount, (nI ol), ops, fA, fB, fC, ow, kd, en, et, eu, ou, vl, rn, co1, cx1, cy1, cz1, ct1, (upd cs (b + 1) (nI cl1)), be, cc, od, us1, ce1, mo1, dn, bu1)) :
    ∀ d i, i + d = ol → ∀ I un cl co cx cy cz ct us ce mo bu, zc_BI L OB VC nc b OB cl0 ops fA fB fC ow ou pre I un cl co cx cy cz ct us ce mo bu → (∀ m, I m = true → m < nc ∧ ow m = nI b ∧ ∃ j, j < i ∧ od j = nI m) → (∀ j, j < i → ∀ m, m < nc → od j = nI m → I m = true) → cl ≤ cl0 + 20 * zb_sm (fun n => if I n = true then 1 else 0) nc → (∀ id, id < 38 → zc_U ops fA fB fC ow b I id nc + zc_RV ou b id VC + zc_RE kd en b id ≤ un id) → wX_generate_16 post (nI b) (d + 1) (nI i) (nI L) f_nodeCap f_blockCap (nI VC) (nI OB) (nI nc) (nI bc) f_phase f_place f_last f_result f_fault f_mFill f_mStore f_mHalt f_mJump (nI cl) f_front f_raw f_ids f_homes f_cellCount (nI ol) ops fA fB fC ow kd en et eu ou vl rn co cx cy cz ct cs be cc od us ce mo dn bu := by
  have K' := K
  obtain ⟨k1, k2, k3, k4, k5, k6, k7, k8⟩ := K'
  obtain ⟨r1, r2, r3, r4, r5⟩ := R
  have hN := zr_cntN (ow := ow) (nc := nc) (b := b + 1)
  intro d
  induction d with
  | zero =>
    intro i hi I un cl co cx cy cz ct us ce mo bu B hIa hIb hl hu
    have hcI := zr_cntI (ow := ow) (nc := nc) (b := b) (I := I) k7 (fun m z => (hIa m z).2.1)
    have hI : ∀ m, I m = true ↔ (m < nc ∧ ow m = nI b) := by
      intro m
      refine ⟨fun z => ⟨(hIa m z).1, (hIa m z).2.1⟩, fun z => ?_⟩
      obtain ⟨j, hj, e⟩ := r5 m z.1 z.2
      exact hIb j (by omega) m z.1 e
    refine br_t (nI_le (by omega) (by omega)) (zx_settle B K rfl h1 E (fun m hm hb => (hI m).mpr ⟨hm, hb⟩) (by omega) (fun id hid => ?_) ?_)
    · have := hu id hid
      omega
    · intro un1 cl1 co1 cx1 cy1 cz1 ct1 us1 ce1 mo1 bu1 B1 hl1 hm1 he1
      dsimp only
      rw [nI_1 b, nI_clamp (show b + 1 < 2 ^ 31 by omega)]
      have hc1 := B1.2.1
      refine And.intro (vp_in_nI (by omega) (by decide)) (nm_e (h (cl1 + 1) _ _ _ _ _ _ _ _ _ (by omega) (fun i hi => ?_) (by omega) (zc_fin B1 K E hI hm1 he1 hcs (by omega))))
      have e : i ≠ cl1 := by omega
      rw [B1.2.2.1 i hi, pk_un e, pk_un e, pk_un e, pk_un e, pk_un e]
  | succ d ih =>
    intro i hi I un cl co cx cy cz ct us ce mo bu B hIa hIb hl hu
    have hcI := zr_cntI (ow := ow) (nc := nc) (b := b) (I := I) k7 (fun m z => (hIa m z).2.1)
    obtain ⟨n, hn, en1, hnb⟩ := r2 i (by omega)
    have hIn : I n = false := by
      cases hc : I n with
      | false => rfl
      | true =>
        obtain ⟨_, _, j, hj, e⟩ := hIa n hc
        have := r3 j i (by omega) (by omega) (e.trans en1.symm)
        omega
    have hoc : ∀ id, id < 38 → zc_oc ops fA fB fC n id (zp_ar (ops n)) ≤ zc_U ops fA fB fC ow b I id nc := by
      intro id hid
      have := zb_smG (f := fun n => if ow n = nI b ∧ I n = false then zc_oc ops fA fB fC n id (zp_ar (ops n)) else 0) nc hn
      rw [if_pos ⟨hnb, hIn⟩] at this
      exact this
    have hI1 : zb_sm (fun m => if (if m = n then true else I m) = true then 1 else 0) nc = zb_sm (fun m => if I m = true then 1 else 0) nc + 1 := by
      have := zb_sm1 (f := fun m => if (if m = n then true else I m) = true then 1 else 0) (g := fun m => if I m = true then 1 else 0) nc hn (fun m _ hm => by
        show (if (if m = n then true else I m) = true then 1 else 0) = _
        rw [if_neg hm])
      rw [if_pos rfl, if_pos rfl, hIn] at this
      have h0 : (if false = true then 1 else 0 : Nat) = 0 := rfl
      omega
    have hcI2 := zr_cntI (ow := ow) (nc := nc) (b := b) (I := fun m => if m = n then true else I m) k7 (fun m z => by
      by_cases c : m = n
      · rw [c]; exact hnb
      · exact (hIa m (by rwa [if_neg c] at z)).2.1)
    rw [hI1] at hcI2
    refine br_f (nI_ge (by omega) (by omega)) ?_
    rw [nI_clamp (show i < 2 ^ 31 by omega), en1]
    refine And.intro (vp_in_nI (by omega) (by decide)) (zx_issue B hn hnb K rfl (by omega) ho hw (by omega) ⟨r1, fun j hj => ?_⟩ (fun id hid => ?_) (fun k hk => ?_) ?_)
    · obtain ⟨m, hm, e, _⟩ := r2 j hj
      exact ⟨m, by omega, e⟩
    · have h2 := hoc id hid
      have h3 := hu id hid
      omega
    · obtain ⟨g1, g2, g3, g4⟩ := ho n hn k hk
      constructor
      · by_cases e1 : ops n = 1
        · exact Or.inr (g3 e1)
        · obtain ⟨j', hj', e'⟩ := r4 i (by omega) n hn en1 k hk e1
          exact Or.inl (hIb j' (by omega) _ (g4 e1).1 e')
      · have h2 := hoc _ g2
        have h3 := hu _ g2
        have h4 := zc_ocin (ops := ops) (fA := fA) (fB := fB) (fC := fC) (n := n) (zp_ar (ops n)) k hk rfl
        omega
    · intro cl1 co1 cx1 cy1 cz1 ct1 us1 ce1 mo1 bu1 B1 hl1
      refine nm_r (nI_1 i) (ih (i + 1) (by omega) _ _ _ _ _ _ _ _ _ _ _ _ B1 (fun m z => ?_) (fun j hj m hm e => ?_) ?_ (fun id hid => ?_))
      · by_cases c : m = n
        · rw [c]
          exact ⟨hn, hnb, i, by omega, en1⟩
        · rw [if_neg c] at z
          obtain ⟨z1, z2, j, hj, e⟩ := hIa m z
          exact ⟨z1, z2, j, by omega, e⟩
      · show (if m = n then true else I m) = true
        by_cases c : m = n
        · rw [if_pos c]
        · rw [if_neg c]
          by_cases c2 : j = i
          · rw [c2, en1] at e
            exact absurd (bz_inj e (by omega) (by omega)).symm c
          · exact hIb j (by omega) m hm e
      · rw [hI1]
        omega
      · have h2 := zb_sm1 (f := fun m => if ow m = nI b ∧ (if m = n then true else I m) = false then zc_oc ops fA fB fC m id (zp_ar (ops m)) else 0) (g := fun m => if ow m = nI b ∧ I m = false then zc_oc ops fA fB fC m id (zp_ar (ops m)) else 0) nc hn (fun m _ hm => by
          show (if ow m = nI b ∧ (if m = n then true else I m) = false then _ else 0) = _
          rw [if_neg hm])
        rw [if_pos ⟨hnb, hIn⟩, if_neg (fun z => by rw [if_pos rfl] at z; exact nomatch z.2)] at h2
        have h3 := hu id hid
        have h4 : zc_U ops fA fB fC ow b (fun m => if m = n then true else I m) id nc + zc_oc ops fA fB fC n id (zp_ar (ops n)) = zc_U ops fA fB fC ow b I id nc := h2
        show _ ≤ un id - _
        omega
theorem zx_gen {post : SX → Prop} (K : zc_K L OB VC nc b OB) (h1 : 1 ≤ OB) (ho : zp_OK VC nc ops fA fB fC ow) (hw : ∀ n, n < nc → ∃ j, j < 16 ∧ ops n = nI j) (E : zc_EG VC nc ow kd en ou b) {p : Nat → Nat} (hp : zp_RK ops fA fB fC nc p) (hcl : cl ≤ 20 * zr_cnt ow nc b + 21 * b) (hcs : cs b = nI cl)
    (h : ∀ cl1 ol1 co1 cx1 cy1 cz1 ct1 od1 us1 ce1 mo1 dn1 bu1, cl1 ≤ 20 * zr_cnt ow nc (b + 1) + 21 * (b + 1) → (∀ i, i < cl → co1 i = co i ∧ cx1 i = cx i ∧ cy1 i = cy i ∧ cz1 i = cz i ∧ ct1 i = ct i) → cl ≤ cl1 → zr_code L OB VC nc ops fA fB fC ow kd en et eu ou co1 cx1 cy1 cz1 ct1 (upd cs (b + 1) (nI cl1)) b cl1 → post ((nI L), f_nodeCap, f_blockCap, (nI VC), (nI OB), (nI nc), (nI bc), f_phase, f_place, f_last, f_result, f_fault, f_mFill, f_mStore, f_mHalt, f_mJump, (nI cl1), f_front, f_raw, f_ids, f_homes, f_cellCount, (nI ol1), ops, fA, fB, fC, ow, kd, en, et, eu, ou, vl, rn, co1, cx1, cy1, cz1, ct1, (upd cs (b + 1) (nI cl1)), be, cc, od1, us1, ce1, mo1, dn1, bu1)) : wpX_generate post ((nI L), f_nodeCap, f_blockCap, (nI VC), (nI OB), (nI nc), (nI bc), f_phase, f_place, f_last, f_result, f_fault, f_mFill, f_mStore, f_mHalt, f_mJump, (nI cl), f_front, f_raw, f_ids, f_homes, f_cellCount, (nI ol), ops, fA, fB, fC, ow, kd, en, et, eu, ou, vl, rn, co, cx, cy, cz, ct, cs, be, cc, od, us, ce, mo, dn, bu) (nI b) := by
  have K' := K
  obtain ⟨k1, k2, k3, k4, k5, k6, k7, k8⟩ := K'
  unfold wpX_generate
  dsimp only
  refine zx_sched k7 k6 k5 ho E hp ?_
  intro ol1 od1 us1 dn1 R
  dsimp only
  refine zx_countUses k7 k6 k5 ho E ?_
  intro us2 hus
  dsimp only
  refine zx_layOut k2 k4 k5 ?_
  intro mo1 ce1 bu1 hm hc hb
  dsimp only
  refine ⟨ol1 + 1, ?_⟩
  have B := zc_B0 (cl := cl) (co := co) (cx := cx) (cy := cy) (cz := cz) (ct := ct) (ops := ops) (fA := fA) (fB := fB) (fC := fC) (ow := ow) (ou := ou) (us := us2) K hm hc hb (un := fun id => zc_U ops fA fB fC ow b (fun _ => false) id nc + zc_RV ou b id VC + zc_RE kd en b id) (fun id hid => ⟨hus id hid, by
    have g1 := zc_Ub (ops := ops) (fA := fA) (fB := fB) (fC := fC) (ow := ow) (b := b) (I := fun _ => false) (id := id) k6
    have g2 := zc_RVb (ou := ou) (b := b) (id := id) k5
    have g3 := zc_REb (kd := kd) (en := en) (b := b) (id := id)
    omega⟩)
  refine zx_gen16 (pre := fun i => (co i, cx i, cy i, cz i, ct i)) K h1 ho hw E R hcl hcs ?_ ol1 0 (by omega) (fun _ => false) _ _ _ _ _ _ _ _ _ _ _ B (fun m z => nomatch z) (fun j hj => absurd hj (by omega)) (by omega) (fun id hid => Nat.le_refl _)
  intro cl3 co3 cx3 cy3 cz3 ct3 us3 ce3 mo3 bu3 hl hpre hle hcode
  refine h _ _ _ _ _ _ _ _ _ _ _ _ _ hl (fun i hi => ?_) hle hcode
  have e := hpre i hi
  simp only [Prod.mk.injEq] at e
  exact ⟨e.1.symm, e.2.1.symm, e.2.2.1.symm, e.2.2.2.1.symm, e.2.2.2.2.symm⟩
end ZX
end
section
/-! X's compile: the checks -/
def zb_clr (N : Nat) (f : Nat → Int32) : Nat → Int32 := fun n => if n < N then 0 else f n
def zr_lv (nc : Nat) (ow : Nat → Int32) (x p : Int32) : Prop := ∃ m, m < nc ∧ x = nI m ∧ ow m = p
def zr_bn (nc : Nat) (ops fA fB fC ow : Nat → Int32) (n : Nat) : Prop := ¬ ops n ≤ 1 ∧ ∃ k, k < zp_fu (ops n) ∧ ¬ zr_lv nc ow (zp_opI ops fA fB fC n k) (ow n)
def zr_bb (VC nc bc : Nat) (ow kd en et eu ou : Nat → Int32) (b : Nat) : Prop :=
  (∃ v, v < VC ∧ ou (b * 6 + v) ≠ -1 ∧ ¬ zr_lv nc ow (ou (b * 6 + v)) (nI b)) ∨ (kd b ≠ 1 ∧ ¬ zr_lv nc ow (en b) (nI b)) ∨ nI bc ≤ et b ∨ nI bc ≤ eu b
def zr_DN (g : Nat → Bool) (dn : Nat → Int32) : Prop := (∀ m, m < 32 → dn m = if g m = true then 1 else 0) ∧ (∀ m, 32 ≤ m → m < 38 → dn m ≠ 0)
section ZX
variable {L VC OB nc bc cl ol : Nat} {f_nodeCap f_blockCap f_phase f_place f_last f_result f_fault f_mFill f_mStore f_mHalt f_mJump f_front f_raw f_ids f_homes f_cellCount : Int32} {ops fA fB fC ow kd en et eu ou vl rn co cx cy cz ct cs be cc od us ce mo dn bu : Nat → Int32}
variable {b : Nat}
theorem zx_wipe {post : SX → Prop} (h : post ((nI L), f_nodeCap, f_blockCap, (nI VC), (nI OB), (nI nc), (nI bc), f_phase, f_place, f_last, f_result, (-1), f_mFill, f_mStore, f_mHalt, f_mJump, (nI cl), f_front, f_raw, f_ids, f_homes, f_cellCount, (nI ol), ops, fA, fB, fC, ow, kd, en, et, eu, ou, (zb_clr 32 vl), (zb_clr 6 rn), co, cx, cy, cz, ct, cs, be, cc, od, us, ce, mo, dn, bu)) : wpX_wipeTrace post ((nI L), f_nodeCap, f_blockCap, (nI VC), (nI OB), (nI nc), (nI bc), f_phase, f_place, f_last, f_result, f_fault, f_mFill, f_mStore, f_mHalt, f_mJump, (nI cl), f_front, f_raw, f_ids, f_homes, f_cellCount, (nI ol), ops, fA, fB, fC, ow, kd, en, et, eu, ou, vl, rn, co, cx, cy, cz, ct, cs, be, cc, od, us, ce, mo, dn, bu) := by
  have key2 : ∀ d i, i + d = 6 → ∀ rn1, (∀ j, rn1 j = if j < i then 0 else rn j) → wX_wipeTrace_28 post (nI L) f_nodeCap f_blockCap (nI VC) (nI OB) (nI nc) (nI bc) f_phase f_place f_last f_result (-1) f_mFill f_mStore f_mHalt f_mJump (nI cl) f_front f_raw f_ids f_homes f_cellCount (nI ol) (d + 1) (nI i) ops fA fB fC ow kd en et eu ou (zb_clr 32 vl) rn1 co cx cy cz ct cs be cc od us ce mo dn bu := by
    intro d
    induction d with
    | zero =>
      intro i hi rn1 hr
      obtain rfl : i = 6 := by omega
      have e : rn1 = zb_clr 6 rn := funext hr
      rw [e]
      exact br_t (nI_le (a := 6) (b := 6) (by omega) (by decide)) h
    | succ d ih =>
      intro i hi rn1 hr
      refine br_f (nI_ge (b := 6) (by omega) (by decide)) (And.intro (vp_in_nI (by omega) (by decide)) ?_)
      rw [nI_clamp (show i < 2 ^ 31 by omega)]
      refine nm_e (nm_r (nI_1 i) (ih (i + 1) (by omega) _ (fun j => ?_)))
      by_cases e : j = i
      · rw [e, pk_us, if_pos (by omega)]
      · rw [pk_un e, hr j]
        by_cases c : j < i
        · rw [if_pos c, if_pos (by omega)]
        · rw [if_neg c, if_neg (by omega)]
  have key1 : ∀ d i, i + d = 32 → ∀ vl1, (∀ j, vl1 j = if j < i then 0 else vl j) → wX_wipeTrace_7 post (nI L) f_nodeCap f_blockCap (nI VC) (nI OB) (nI nc) (nI bc) f_phase f_place f_last f_result (-1) f_mFill f_mStore f_mHalt f_mJump (nI cl) f_front f_raw f_ids f_homes f_cellCount (nI ol) (d + 1) (nI i) ops fA fB fC ow kd en et eu ou vl1 rn co cx cy cz ct cs be cc od us ce mo dn bu := by
    intro d
    induction d with
    | zero =>
      intro i hi vl1 hr
      obtain rfl : i = 32 := by omega
      have e : vl1 = zb_clr 32 vl := funext hr
      rw [e]
      refine br_t (nI_le (a := 32) (b := 32) (by omega) (by decide)) ⟨_, key2 6 0 (by omega) rn (fun j => ?_)⟩
      rw [if_neg (by omega)]
    | succ d ih =>
      intro i hi vl1 hr
      refine br_f (nI_ge (b := 32) (by omega) (by decide)) (And.intro (vp_in_nI (by omega) (by decide)) ?_)
      rw [nI_clamp (show i < 2 ^ 31 by omega)]
      refine nm_e (nm_r (nI_1 i) (ih (i + 1) (by omega) _ (fun j => ?_)))
      by_cases e : j = i
      · rw [e, pk_us, if_pos (by omega)]
      · rw [pk_un e, hr j]
        by_cases c : j < i
        · rw [if_pos c, if_pos (by omega)]
        · rw [if_neg c, if_neg (by omega)]
  refine ⟨_, key1 32 0 (by omega) vl (fun j => ?_)⟩
  rw [if_neg (by omega)]
theorem zx_lives {post : Int32 → Prop} {x p : Int32} (hn : nc ≤ 32) (h1 : zr_lv nc ow x p → post 1) (h0 : ¬ zr_lv nc ow x p → post 0) : wpX_lives post ((nI L), f_nodeCap, f_blockCap, (nI VC), (nI OB), (nI nc), (nI bc), f_phase, f_place, f_last, f_result, f_fault, f_mFill, f_mStore, f_mHalt, f_mJump, (nI cl), f_front, f_raw, f_ids, f_homes, f_cellCount, (nI ol), ops, fA, fB, fC, ow, kd, en, et, eu, ou, vl, rn, co, cx, cy, cz, ct, cs, be, cc, od, us, ce, mo, dn, bu) x p := by
  refine br_c (fun c => h0 ?_) (fun c => br_c (fun c2 => h0 ?_) (fun c2 => ?_))
  · rintro ⟨m, hm, rfl, _⟩
    exact nI_pos (by omega) c
  · rintro ⟨m, hm, rfl, _⟩
    exact nI_ge hm (by omega) c2
  · obtain ⟨m, hm, rfl⟩ := bz_ex c c2 (by omega)
    refine And.intro (vp_in_nI (by omega) (by decide)) ?_
    rw [nI_clamp (show m < 2 ^ 31 by omega)]
    refine br_c (fun e => h1 ⟨m, hm, rfl, e⟩) (fun e => h0 ?_)
    rintro ⟨m', hm', e', h'⟩
    rw [← bz_inj e' (by omega) (by omega)] at h'
    exact e h'
theorem zx_fbn37 {n u : Nat} {post J : Int32 → Prop} (hn : n < nc) (hc : nc ≤ 32) (hu : u ≤ 3) (hJ : (∀ k, k < u → zr_lv nc ow (zp_opI ops fA fB fC n k) (ow n)) → J (nI (n + 1))) (hb : ∀ k, k < u → ¬ zr_lv nc ow (zp_opI ops fA fB fC n k) (ow n) → post (nI n)) : ∀ e k, k + e = u → (∀ j, j < k → zr_lv nc ow (zp_opI ops fA fB fC n j) (ow n)) → wX_firstBadNode_37 post J (nI n) (nI u) (nI L) f_nodeCap f_blockCap (nI VC) (nI OB) (nI nc) (nI bc) f_phase f_place f_last f_result f_fault f_mFill f_mStore f_mHalt f_mJump (nI cl) f_front f_raw f_ids f_homes f_cellCount (nI ol) ops fA fB fC ow kd en et eu ou vl rn co cx cy cz ct cs be cc od us ce mo dn bu (e + 1) (nI k) := by
  intro e
  induction e with
  | zero =>
    intro k hk hl
    exact br_t (nI_le (by omega) (by omega)) (nm_r (nI_1 n) (hJ (fun j hj => hl j (by omega))))
  | succ e ih =>
    intro k hk hl
    refine br_f (nI_ge (by omega) (by omega)) (zx_opId (by omega) (by omega) (And.intro (vp_in_nI (by omega) (by decide)) ?_))
    rw [nI_clamp (show n < 2 ^ 31 by omega)]
    refine zx_lives hc (fun z => br_f (by decide) (nm_r (nI_1 k) (ih (k + 1) (by omega) (fun j hj => ?_)))) (fun z => br_t rfl (hb k (by omega) z))
    by_cases c : j = k
    · rw [c]; exact z
    · exact hl j (by omega)
theorem zx_fbn {post : Int32 → Prop} (hc : nc ≤ 32) (h : ∀ r, zb_fst (zr_bn nc ops fA fB fC ow) nc r → post r) : wpX_firstBadNode post ((nI L), f_nodeCap, f_blockCap, (nI VC), (nI OB), (nI nc), (nI bc), f_phase, f_place, f_last, f_result, f_fault, f_mFill, f_mStore, f_mHalt, f_mJump, (nI cl), f_front, f_raw, f_ids, f_homes, f_cellCount, (nI ol), ops, fA, fB, fC, ow, kd, en, et, eu, ou, vl, rn, co, cx, cy, cz, ct, cs, be, cc, od, us, ce, mo, dn, bu) := by
  have key : ∀ d n, n + d = nc → (∀ m, m < n → ¬ zr_bn nc ops fA fB fC ow m) → wX_firstBadNode_2 post (nI L) f_nodeCap f_blockCap (nI VC) (nI OB) (nI nc) (nI bc) f_phase f_place f_last f_result f_fault f_mFill f_mStore f_mHalt f_mJump (nI cl) f_front f_raw f_ids f_homes f_cellCount (nI ol) ops fA fB fC ow kd en et eu ou vl rn co cx cy cz ct cs be cc od us ce mo dn bu (d + 1) (nI n) := by
    intro d
    induction d with
    | zero =>
      intro n hn hg
      exact br_t (nI_le (by omega) (by omega)) (h _ (Or.inl ⟨rfl, fun m hm => hg m (by omega)⟩))
    | succ d ih =>
      intro n hn hg
      have nx : ¬ zr_bn nc ops fA fB fC ow n → ∀ m, m < n + 1 → ¬ zr_bn nc ops fA fB fC ow m := by
        intro z m hm
        by_cases c : m = n
        · rw [c]; exact z
        · exact hg m (by omega)
      have hi : vp_in (nI n) 32 := vp_in_nI (by omega) (by decide)
      refine br_f (nI_ge (by omega) (by omega)) (And.intro hi ?_)
      rw [nI_clamp (show n < 2 ^ 31 by omega)]
      refine br_c (fun c => ⟨1, zx_fbn37 (u := 0) (by omega) hc (by omega) (fun _ => ih (n + 1) (by omega) (nx (fun z => z.1 c))) (fun k hk => absurd hk (by omega)) 0 0 rfl (fun j hj => absurd hj (by omega))⟩) (fun c => And.intro hi (zx_fu ⟨_, zx_fbn37 (by omega) hc (zp_fu1 (ops n)).2 (fun g => ih (n + 1) (by omega) (nx ?_)) (fun k hk z => h _ (Or.inr ⟨n, by omega, rfl, ⟨c, k, hk, z⟩, hg⟩)) (zp_fu (ops n)) 0 (by omega) (fun j hj => absurd hj (by omega))⟩))
      rintro ⟨_, k, hk, z⟩
      exact z (g k hk)
  exact ⟨_, key nc 0 (by omega) (fun m hm => absurd hm (by omega))⟩
theorem zx_fbb {post : Int32 → Prop} (hc : nc ≤ 32) (hb6 : bc ≤ 6) (hV : VC ≤ 6) (h : ∀ r, zb_fst (zr_bb VC nc bc ow kd en et eu ou) bc r → post r) : wpX_firstBadBlock post ((nI L), f_nodeCap, f_blockCap, (nI VC), (nI OB), (nI nc), (nI bc), f_phase, f_place, f_last, f_result, f_fault, f_mFill, f_mStore, f_mHalt, f_mJump, (nI cl), f_front, f_raw, f_ids, f_homes, f_cellCount, (nI ol), ops, fA, fB, fC, ow, kd, en, et, eu, ou, vl, rn, co, cx, cy, cz, ct, cs, be, cc, od, us, ce, mo, dn, bu) := by
  have key : ∀ d b, b + d = bc → (∀ m, m < b → ¬ zr_bb VC nc bc ow kd en et eu ou m) → wX_firstBadBlock_2 post (nI L) f_nodeCap f_blockCap (nI VC) (nI OB) (nI nc) (nI bc) f_phase f_place f_last f_result f_fault f_mFill f_mStore f_mHalt f_mJump (nI cl) f_front f_raw f_ids f_homes f_cellCount (nI ol) ops fA fB fC ow kd en et eu ou vl rn co cx cy cz ct cs be cc od us ce mo dn bu (d + 1) (nI b) := by
    intro d
    induction d with
    | zero =>
      intro b hb hg
      exact br_t (nI_le (by omega) (by omega)) (h _ (Or.inl ⟨rfl, fun m hm => hg m (by omega)⟩))
    | succ d ih =>
      intro b hb hg
      have bad : zr_bb VC nc bc ow kd en et eu ou b → post (nI b) := fun z => h _ (Or.inr ⟨b, by omega, rfl, z, hg⟩)
      have hi : vp_in (nI b) 6 := vp_in_nI (by omega) (by decide)
      have nx : ¬ zr_bb VC nc bc ow kd en et eu ou b → wX_firstBadBlock_2 post (nI L) f_nodeCap f_blockCap (nI VC) (nI OB) (nI nc) (nI bc) f_phase f_place f_last f_result f_fault f_mFill f_mStore f_mHalt f_mJump (nI cl) f_front f_raw f_ids f_homes f_cellCount (nI ol) ops fA fB fC ow kd en et eu ou vl rn co cx cy cz ct cs be cc od us ce mo dn bu (d + 1) (nI (b + 1)) := by
        intro z
        refine ih (b + 1) (by omega) (fun m hm => ?_)
        by_cases c : m = b
        · rw [c]; exact z
        · exact hg m (by omega)
      have k80 : (∀ v, v < VC → ou (b * 6 + v) ≠ -1 → zr_lv nc ow (ou (b * 6 + v)) (nI b)) → (kd b ≠ 1 → zr_lv nc ow (en b) (nI b)) → wX_firstBadBlock_80 post (wX_firstBadBlock_2 post (nI L) f_nodeCap f_blockCap (nI VC) (nI OB) (nI nc) (nI bc) f_phase f_place f_last f_result f_fault f_mFill f_mStore f_mHalt f_mJump (nI cl) f_front f_raw f_ids f_homes f_cellCount (nI ol) ops fA fB fC ow kd en et eu ou vl rn co cx cy cz ct cs be cc od us ce mo dn bu (d + 1)) (nI b) (nI L) f_nodeCap f_blockCap (nI VC) (nI OB) (nI nc) (nI bc) f_phase f_place f_last f_result f_fault f_mFill f_mStore f_mHalt f_mJump (nI cl) f_front f_raw f_ids f_homes f_cellCount (nI ol) ops fA fB fC ow kd en et eu ou vl rn co cx cy cz ct cs be cc od us ce mo dn bu := by
        intro g1 g2
        refine And.intro hi ?_
        rw [nI_clamp (show b < 2 ^ 31 by omega)]
        refine br_c (fun c => bad (Or.inr (Or.inr (Or.inl c)))) (fun c => And.intro hi (br_c (fun c2 => nm_r (nI_1 b) (nx ?_)) (fun c2 => bad (Or.inr (Or.inr (Or.inr (Int32.not_lt.mp c2)))))))
        rintro (⟨v, hv, z1, z2⟩ | ⟨z1, z2⟩ | z | z)
        · exact z2 (g1 v hv z1)
        · exact z2 (g2 z1)
        · exact c z
        · exact Int32.not_le.mpr c2 z
      have k12 : ∀ e v, v + e = VC → (∀ w, w < v → ou (b * 6 + w) ≠ -1 → zr_lv nc ow (ou (b * 6 + w)) (nI b)) → wX_firstBadBlock_12 post (wX_firstBadBlock_2 post (nI L) f_nodeCap f_blockCap (nI VC) (nI OB) (nI nc) (nI bc) f_phase f_place f_last f_result f_fault f_mFill f_mStore f_mHalt f_mJump (nI cl) f_front f_raw f_ids f_homes f_cellCount (nI ol) ops fA fB fC ow kd en et eu ou vl rn co cx cy cz ct cs be cc od us ce mo dn bu (d + 1)) (nI b) (nI L) f_nodeCap f_blockCap (nI VC) (nI OB) (nI nc) (nI bc) f_phase f_place f_last f_result f_fault f_mFill f_mStore f_mHalt f_mJump (nI cl) f_front f_raw f_ids f_homes f_cellCount (nI ol) ops fA fB fC ow kd en et eu ou vl rn co cx cy cz ct cs be cc od us ce mo dn bu (e + 1) (nI v) := by
        intro e
        induction e with
        | zero =>
          intro v hv g1
          obtain rfl : v = VC := by omega
          refine br_t (nI_le (by omega) (by omega)) (And.intro hi ?_)
          rw [nI_clamp (show b < 2 ^ 31 by omega)]
          refine br_c (fun c => k80 g1 (fun z => absurd c z)) (fun c => And.intro hi (zx_lives hc (fun z => br_f (by decide) (k80 g1 (fun _ => z))) (fun z => br_t rfl (bad (Or.inr (Or.inl ⟨c, z⟩))))))
        | succ e ih2 =>
          intro v hv g1
          refine br_f (nI_ge (by omega) (by omega)) ?_
          rw [bz_6, nI_clamp (show b * 6 + v < 2 ^ 31 by omega)]
          refine And.intro (vp_in_nI (by omega) (by decide)) (nm_e (br_c (fun c => nm_r (nI_1 v) (ih2 (v + 1) (by omega) (fun w hw hn => ?_))) (fun c => zx_lives hc (fun z => br_f (by decide) (nm_r (nI_1 v) (ih2 (v + 1) (by omega) (fun w hw hn => ?_)))) (fun z => br_t rfl (bad (Or.inl ⟨v, by omega, c, z⟩))))))
          · by_cases c2 : w = v
            · rw [c2] at hn; exact absurd c hn
            · exact g1 w (by omega) hn
          · by_cases c2 : w = v
            · rw [c2]; exact z
            · exact g1 w (by omega) hn
      exact br_f (nI_ge (by omega) (by omega)) ⟨_, k12 VC 0 (by omega) (fun w hw => absurd hw (by omega))⟩
  exact ⟨_, key bc 0 (by omega) (fun m hm => absurd hm (by omega))⟩
theorem zr_DNr {g : Nat → Bool} {n : Nat} (hc : nc ≤ 32) (ho : zp_OK VC nc ops fA fB fC ow) (hn : n < nc) (D : zr_DN g dn) : zp_rdy ops fA fB fC g n = true ↔ ∀ k, k < zp_ar (ops n) → dn (zp_op ops fA fB fC n k) ≠ 0 := by
  rw [zp_rdyI]
  have h10 : (1 : Int32) ≠ 0 := by decide
  constructor
  · intro h k hk
    obtain ⟨_, h2, h3, h4⟩ := ho n hn k hk
    by_cases e1 : ops n = 1
    · exact D.2 _ (h3 e1).1 h2
    · have := (h4 e1).1
      rw [D.1 _ (by omega), if_pos ((h k hk).resolve_left e1)]
      exact h10
  · intro h k hk
    obtain ⟨_, h2, h3, h4⟩ := ho n hn k hk
    by_cases e1 : ops n = 1
    · exact Or.inl e1
    · right
      have h5 := (h4 e1).1
      have h6 := h k hk
      rw [D.1 _ (by omega)] at h6
      cases hg : g (zp_op ops fA fB fC n k) with
      | true => rfl
      | false => rw [hg] at h6; exact absurd rfl h6
theorem zx_fug {post : Int32 → SX → Prop} (hc : nc ≤ 32) (ho : zp_OK VC nc ops fA fB fC ow) (h : ∀ r dn1, zb_fst (fun n => zp_gp ops fA fB fC nc nc n = false) nc r → post r ((nI L), f_nodeCap, f_blockCap, (nI VC), (nI OB), (nI nc), (nI bc), f_phase, f_place, f_last, f_result, f_fault, f_mFill, f_mStore, f_mHalt, f_mJump, (nI cl), f_front, f_raw, f_ids, f_homes, f_cellCount, (nI ol), ops, fA, fB, fC, ow, kd, en, et, eu, ou, vl, rn, co, cx, cy, cz, ct, cs, be, cc, od, us, ce, mo, dn1, bu)) : wpX_firstUngrounded post ((nI L), f_nodeCap, f_blockCap, (nI VC), (nI OB), (nI nc), (nI bc), f_phase, f_place, f_last, f_result, f_fault, f_mFill, f_mStore, f_mHalt, f_mJump, (nI cl), f_front, f_raw, f_ids, f_homes, f_cellCount, (nI ol), ops, fA, fB, fC, ow, kd, en, et, eu, ou, vl, rn, co, cx, cy, cz, ct, cs, be, cc, od, us, ce, mo, dn, bu) := by
  have h10 : (1 : Int32) ≠ 0 := by decide
  have key3 : ∀ dn1, zr_DN (zp_gp ops fA fB fC nc nc) dn1 → ∀ d n, n + d = nc → (∀ m, m < n → ¬ zp_gp ops fA fB fC nc nc m = false) → wX_firstUngrounded_58 post (nI L) f_nodeCap f_blockCap (nI VC) (nI OB) (nI nc) (nI bc) f_phase f_place f_last f_result f_fault f_mFill f_mStore f_mHalt f_mJump (nI cl) f_front f_raw f_ids f_homes f_cellCount (nI ol) ops fA fB fC ow kd en et eu ou vl rn co cx cy cz ct cs be cc od us ce mo dn1 bu (d + 1) (nI n) := by
    intro dn1 D d
    induction d with
    | zero =>
      intro n hn hg
      exact br_t (nI_le (by omega) (by omega)) (h _ _ (Or.inl ⟨rfl, fun m hm => hg m (by omega)⟩))
    | succ d ih =>
      intro n hn hg
      refine br_f (nI_ge (by omega) (by omega)) (And.intro (vp_in_nI (by omega) (by decide)) ?_)
      rw [nI_clamp (show n < 2 ^ 31 by omega), D.1 n (by omega)]
      cases hq : zp_gp ops fA fB fC nc nc n with
      | true =>
        refine br_f (by rw [if_pos rfl]; exact h10) (nm_r (nI_1 n) (ih (n + 1) (by omega) (fun m hm => ?_)))
        by_cases c : m = n
        · rw [c, hq]; exact fun z => nomatch z
        · exact hg m (by omega)
      | false => exact br_t rfl (h _ _ (Or.inr ⟨n, by omega, rfl, hq, hg⟩))
  have key2 : ∀ (J : Int32 → (Nat → Int32) → (Nat → Int32) → (Nat → Int32) → (Nat → Int32) → (Nat → Int32) → (Nat → Int32) → (Nat → Int32) → (Nat → Int32) → (Nat → Int32) → (Nat → Int32) → (Nat → Int32) → (Nat → Int32) → (Nat → Int32) → (Nat → Int32) → (Nat → Int32) → (Nat → Int32) → (Nat → Int32) → (Nat → Int32) → (Nat → Int32) → (Nat → Int32) → (Nat → Int32) → (Nat → Int32) → (Nat → Int32) → (Nat → Int32) → (Nat → Int32) → (Nat → Int32) → Prop) p, (∀ dn1, zr_DN (zp_gp ops fA fB fC nc (p + 1)) dn1 → J (nI (p + 1)) ops fA fB fC ow kd en et eu ou vl rn co cx cy cz ct cs be cc od us ce mo dn1 bu) → ∀ d i, i + d = nc → ∀ dn1, zr_DN (zp_gi ops fA fB fC (zp_gp ops fA fB fC nc p) i) dn1 → wX_firstUngrounded_16 post J (nI p) (nI L) f_nodeCap f_blockCap (nI VC) (nI OB) (nI nc) (nI bc) f_phase f_place f_last f_result f_fault f_mFill f_mStore f_mHalt f_mJump (nI cl) f_front f_raw f_ids f_homes f_cellCount (nI ol) (d + 1) (nI i) ops fA fB fC ow kd en et eu ou vl rn co cx cy cz ct cs be cc od us ce mo dn1 bu := by
    intro J p hJ d
    induction d with
    | zero =>
      intro i hi dn1 D
      obtain rfl : i = nc := by omega
      exact br_t (nI_le (by omega) (by omega)) (nm_r (nI_1 p) (hJ _ D))
    | succ d ih =>
      intro i hi dn1 D
      have hM := zp_giM (zp_gpM (ops := ops) (fA := fA) (fB := fB) (fC := fC) nc p) i
      have nx : ∀ x : Int32, x = (if zp_rdy ops fA fB fC (zp_gi ops fA fB fC (zp_gp ops fA fB fC nc p) i) i = true then 1 else 0) → zr_DN (zp_gi ops fA fB fC (zp_gp ops fA fB fC nc p) (i + 1)) (upd dn1 i x) := by
        intro x hx
        refine ⟨fun m hm => ?_, fun m h1 h2 => by rw [pk_un (by omega)]; exact D.2 m h1 h2⟩
        show _ = if (if m = i then _ else _) = true then 1 else 0
        by_cases c : m = i
        · rw [if_pos c, c, pk_us]; exact hx
        · rw [if_neg c, pk_un c]; exact D.1 m hm
      have hi2 : vp_in (nI i) 38 := vp_in_nI (by omega) (by decide)
      refine br_f (nI_ge (by omega) (by omega)) (And.intro hi2 ?_)
      rw [nI_clamp (show i < 2 ^ 31 by omega)]
      refine br_c (fun c => zx_ready (by omega) (fun k hk => ⟨(ho i (by omega) k hk).1, (ho i (by omega) k hk).2.1⟩) (fun g => And.intro hi2 (nm_e (nm_r (nI_1 i) (ih (i + 1) (by omega) _ (nx _ ?_))))) (fun k hk g => And.intro hi2 (nm_e (nm_r (nI_1 i) (ih (i + 1) (by omega) _ (nx _ ?_)))))) (fun c => nm_r (nI_1 i) (ih (i + 1) (by omega) _ ?_))
      · rw [bz_b1, if_pos ((zr_DNr hc ho (by omega) D).mpr g)]
      · rw [bz_b0, if_neg (fun z => (zr_DNr hc ho (by omega) D).mp z k hk g)]
      · have hg : zp_gi ops fA fB fC (zp_gp ops fA fB fC nc p) i i = true := by
          rw [D.1 i (by omega)] at c
          cases hq : zp_gi ops fA fB fC (zp_gp ops fA fB fC nc p) i i with
          | true => rfl
          | false => rw [hq] at c; exact absurd rfl c
        have e : upd dn1 i 1 = dn1 := by
          funext m
          by_cases c2 : m = i
          · rw [c2, pk_us, D.1 i (by omega), hg, if_pos rfl]
          · rw [pk_un c2]
        have := nx 1 (by rw [if_pos (hM i hg)])
        rw [e] at this
        exact this
  have key1 : ∀ d p, p + d = nc → ∀ dn1, zr_DN (zp_gp ops fA fB fC nc p) dn1 → wX_firstUngrounded_6 post (nI L) f_nodeCap f_blockCap (nI VC) (nI OB) (nI nc) (nI bc) f_phase f_place f_last f_result f_fault f_mFill f_mStore f_mHalt f_mJump (nI cl) f_front f_raw f_ids f_homes f_cellCount (nI ol) (d + 1) (nI p) ops fA fB fC ow kd en et eu ou vl rn co cx cy cz ct cs be cc od us ce mo dn1 bu := by
    intro d
    induction d with
    | zero =>
      intro p hp dn1 D
      obtain rfl : p = nc := by omega
      exact br_t (nI_le (by omega) (by omega)) ⟨_, key3 dn1 D p 0 (by omega) (fun m hm => absurd hm (by omega))⟩
    | succ d ih =>
      intro p hp dn1 D
      exact br_f (nI_ge (by omega) (by omega)) ⟨_, key2 _ p (fun dn2 D2 => ih (p + 1) (by omega) dn2 D2) nc 0 (by omega) dn1 D⟩
  unfold wpX_firstUngrounded
  dsimp only
  refine zx_markEntry (fun dn1 hd0 hd1 => ⟨_, key1 nc 0 (by omega) dn1 ⟨fun m hm => ?_, fun m h1 h2 => ?_⟩⟩)
  · rw [hd0 m hm]; rfl
  · rw [hd1 m h1 h2]; exact h10
end ZX
end
section
/-! X's compile, whole -/
section ZX
variable {L VC OB nc bc cl ol : Nat} {f_nodeCap f_blockCap f_phase f_place f_last f_result f_fault f_mFill f_mStore f_mHalt f_mJump f_front f_raw f_ids f_homes f_cellCount : Int32} {ops fA fB fC ow kd en et eu ou vl rn co cx cy cz ct cs be cc od us ce mo dn bu : Nat → Int32}
theorem zr_OKof (hw : ∀ n, n < nc → (∃ j, j < 16 ∧ ops n = nI j) ∧ (ops n = 1 → zb_IN (fA n) VC)) (hc : nc ≤ 32) (hV : VC ≤ 6) (hg : ∀ n, n < nc → ¬ zr_bn nc ops fA fB fC ow n) : zp_OK VC nc ops fA fB fC ow := by
  intro n hn k hk
  have h3 := zp_ar3 (ops n)
  by_cases e0 : ops n = 0
  · rw [e0] at hk
    exact absurd hk (by show ¬ k < 0; omega)
  · have ha : zp_ar (ops n) = zp_fu (ops n) := if_neg e0
    by_cases e1 : ops n = 1
    · obtain ⟨v, hv, ev⟩ := (hw n hn).2 e1
      have e : zp_opI ops fA fB fC n k = nI (32 + v) := by
        unfold zp_opI
        rw [if_pos e1, ev, bz_32]
      have e' : zp_op ops fA fB fC n k = 32 + v := by
        unfold zp_op
        rw [e, nI_clamp (by omega)]
      rw [e', e]
      exact ⟨rfl, by omega, fun _ => by omega, fun z => absurd e1 z⟩
    · obtain ⟨j, hj, ej⟩ := (hw n hn).1
      have hgt : ¬ ops n ≤ 1 := by
        rw [ej]
        refine nI_ge (a := 1) ?_ (by omega)
        by_cases c0 : j = 0
        · rw [c0] at ej; exact absurd ej e0
        · by_cases c1 : j = 1
          · rw [c1] at ej; exact absurd ej e1
          · omega
      have hl : zr_lv nc ow (zp_opI ops fA fB fC n k) (ow n) := Classical.byContradiction fun z => hg n hn ⟨hgt, k, by omega, z⟩
      obtain ⟨m, hm, em, hb⟩ := hl
      have e' : zp_op ops fA fB fC n k = m := by
        unfold zp_op
        rw [em, nI_clamp (by omega)]
      rw [e', em]
      exact ⟨rfl, by omega, fun z => absurd z e1, fun _ => ⟨hm, hb⟩⟩
theorem zr_EGof {b : Nat} (h : ¬ zr_bb VC nc bc ow kd en et eu ou b) : zc_EG VC nc ow kd en ou b := by
  constructor
  · intro v hv
    by_cases e : ou (b * 6 + v) = -1
    · exact Or.inl e
    · have hl : zr_lv nc ow (ou (b * 6 + v)) (nI b) := Classical.byContradiction fun z => h (Or.inl ⟨v, hv, e, z⟩)
      exact Or.inr hl
  · intro hk
    exact Classical.byContradiction fun z => h (Or.inr (Or.inl ⟨hk, z⟩))
theorem zx_comp124 {post : Int32 → SX → Prop} (h4 : 4 ≤ L) (h12 : L ≤ 12) (hO1 : 1 ≤ OB) (hOL : OB < L) (hOV : OB ≤ VC) (hV : VC ≤ 6) (hn : nc ≤ 32) (hb6 : bc ≤ 6) (ho : zp_OK VC nc ops fA fB fC ow) (hw : ∀ n, n < nc → ∃ j, j < 16 ∧ ops n = nI j) (E : ∀ b, b < bc → zc_EG VC nc ow kd en ou b) {p : Nat → Nat} (hp : zp_RK ops fA fB fC nc p)
    (h : ∀ cl1 ol1 co1 cx1 cy1 cz1 ct1 cs1 od1 us1 ce1 mo1 dn1 bu1, (∀ b, b < bc → zr_code L OB VC nc ops fA fB fC ow kd en et eu ou co1 cx1 cy1 cz1 ct1 cs1 b 1024) → post 0 ((nI L), f_nodeCap, f_blockCap, (nI VC), (nI OB), (nI nc), (nI bc), 1, 0, (-1), 0, (-1), f_mFill, f_mStore, f_mHalt, f_mJump, (nI cl1), f_front, f_raw, f_ids, f_homes, f_cellCount, (nI ol1), ops, fA, fB, fC, ow, kd, en, et, eu, ou, (zb_clr 32 vl), (zb_clr 6 rn), co1, cx1, cy1, cz1, ct1, cs1, be, cc, od1, us1, ce1, mo1, dn1, bu1)) :
    ∀ d b, b + d = bc → ∀ cl1 ol1 co1 cx1 cy1 cz1 ct1 cs1 od1 us1 ce1 mo1 dn1 bu1, cl1 ≤ 20 * zr_cnt ow nc b + 21 * b → cs1 b = nI cl1 → (∀ b', b' < b → zr_code L OB VC nc ops fA fB fC ow kd en et eu ou co1 cx1 cy1 cz1 ct1 cs1 b' cl1) → wX_compile_124 post (d + 1) (nI b) (nI L) f_nodeCap f_blockCap (nI VC) (nI OB) (nI nc) (nI bc) f_phase f_place f_last f_result f_fault f_mFill f_mStore f_mHalt f_mJump (nI cl1) f_front f_raw f_ids f_homes f_cellCount (nI ol1) ops fA fB fC ow kd en et eu ou vl rn co1 cx1 cy1 cz1 ct1 cs1 be cc od1 us1 ce1 mo1 dn1 bu1 := by
  intro d
  induction d with
  | zero =>
    intro b hb cl1 ol1 co1 cx1 cy1 cz1 ct1 cs1 od1 us1 ce1 mo1 dn1 bu1 hl hcs hcode
    have hN := zr_cntN (ow := ow) (nc := nc) (b := b)
    have z := h cl1 ol1 co1 cx1 cy1 cz1 ct1 cs1 od1 us1 ce1 mo1 dn1 bu1 (fun b' hb' => zr_codeC (hcode b' (by omega)) (by omega) (fun i _ => ⟨rfl, rfl, rfl, rfl, rfl⟩) rfl rfl)
    exact br_t (nI_le (by omega) (by omega)) (zx_wipe z)
  | succ d ih =>
    intro b hb cl1 ol1 co1 cx1 cy1 cz1 ct1 cs1 od1 us1 ce1 mo1 dn1 bu1 hl hcs hcode
    refine br_f (nI_ge (by omega) (by omega)) (zx_gen ⟨h4, h12, hOL, hOV, hV, hn, by omega, hOV⟩ hO1 ho hw (E b (by omega)) hp hl hcs ?_)
    intro cl2 ol2 co2 cx2 cy2 cz2 ct2 od2 us2 ce2 mo2 dn2 bu2 hl2 hag hle hc2
    have z := ih (b + 1) (by omega) cl2 ol2 co2 cx2 cy2 cz2 ct2 (upd cs1 (b + 1) (nI cl2)) od2 us2 ce2 mo2 dn2 bu2 hl2 pk_us (fun b' hb' => by
      by_cases c : b' = b
      · rw [c]; exact hc2
      · exact zr_codeC (hcode b' (by omega)) hle hag (pk_un (by omega)) (pk_un (by omega)))
    exact nm_r (nI_1 b) z
theorem zx_compile {post : Int32 → SX → Prop} (h4 : 4 ≤ L) (h12 : L ≤ 12) (hO1 : 1 ≤ OB) (hOL : OB < L) (hOV : OB ≤ VC) (hV : VC ≤ 6) (hn : nc ≤ 32) (hb6 : bc ≤ 6) (hw : ∀ n, n < nc → (∃ j, j < 16 ∧ ops n = nI j) ∧ (ops n = 1 → zb_IN (fA n) VC))
    (h2 : f_phase ≠ 0 → post (-2) ((nI L), f_nodeCap, f_blockCap, (nI VC), (nI OB), (nI nc), (nI bc), f_phase, f_place, f_last, f_result, f_fault, f_mFill, f_mStore, f_mHalt, f_mJump, (nI cl), f_front, f_raw, f_ids, f_homes, f_cellCount, (nI ol), ops, fA, fB, fC, ow, kd, en, et, eu, ou, vl, rn, co, cx, cy, cz, ct, cs, be, cc, od, us, ce, mo, dn, bu)) (h4' : f_phase = 0 → bc = 0 → post (-4) ((nI L), f_nodeCap, f_blockCap, (nI VC), (nI OB), (nI nc), (nI bc), f_phase, f_place, f_last, f_result, (-1), f_mFill, f_mStore, f_mHalt, f_mJump, (nI cl), f_front, f_raw, f_ids, f_homes, f_cellCount, (nI ol), ops, fA, fB, fC, ow, kd, en, et, eu, ou, vl, rn, co, cx, cy, cz, ct, cs, be, cc, od, us, ce, mo, dn, bu))
    (h5 : f_phase = 0 → 0 < bc → kd (bc - 1) = -1 → post (-5) ((nI L), f_nodeCap, f_blockCap, (nI VC), (nI OB), (nI nc), (nI bc), f_phase, f_place, f_last, f_result, (nI (bc - 1)), f_mFill, f_mStore, f_mHalt, f_mJump, (nI cl), f_front, f_raw, f_ids, f_homes, f_cellCount, (nI ol), ops, fA, fB, fC, ow, kd, en, et, eu, ou, vl, rn, co, cx, cy, cz, ct, cs, be, cc, od, us, ce, mo, dn, bu))
    (h9 : f_phase = 0 → 0 < bc → kd (bc - 1) ≠ -1 → ∀ n, n < nc → zr_bn nc ops fA fB fC ow n → (∀ m, m < n → ¬ zr_bn nc ops fA fB fC ow m) → post (-9) ((nI L), f_nodeCap, f_blockCap, (nI VC), (nI OB), (nI nc), (nI bc), f_phase, f_place, f_last, f_result, (nI n), f_mFill, f_mStore, f_mHalt, f_mJump, (nI cl), f_front, f_raw, f_ids, f_homes, f_cellCount, (nI ol), ops, fA, fB, fC, ow, kd, en, et, eu, ou, vl, rn, co, cx, cy, cz, ct, cs, be, cc, od, us, ce, mo, dn, bu))
    (h10 : f_phase = 0 → 0 < bc → kd (bc - 1) ≠ -1 → (∀ n, n < nc → ¬ zr_bn nc ops fA fB fC ow n) → ∀ b, b < bc → zr_bb VC nc bc ow kd en et eu ou b → (∀ m, m < b → ¬ zr_bb VC nc bc ow kd en et eu ou m) → post (-10) ((nI L), f_nodeCap, f_blockCap, (nI VC), (nI OB), (nI nc), (nI bc), f_phase, f_place, f_last, f_result, (nI b), f_mFill, f_mStore, f_mHalt, f_mJump, (nI cl), f_front, f_raw, f_ids, f_homes, f_cellCount, (nI ol), ops, fA, fB, fC, ow, kd, en, et, eu, ou, vl, rn, co, cx, cy, cz, ct, cs, be, cc, od, us, ce, mo, dn, bu))
    (h13 : f_phase = 0 → 0 < bc → kd (bc - 1) ≠ -1 → (∀ n, n < nc → ¬ zr_bn nc ops fA fB fC ow n) → (∀ b, b < bc → ¬ zr_bb VC nc bc ow kd en et eu ou b) → ∀ n dn1, n < nc → zp_gp ops fA fB fC nc nc n = false → (∀ m, m < n → ¬ zp_gp ops fA fB fC nc nc m = false) → post (-13) ((nI L), f_nodeCap, f_blockCap, (nI VC), (nI OB), (nI nc), (nI bc), f_phase, f_place, f_last, f_result, (nI n), f_mFill, f_mStore, f_mHalt, f_mJump, (nI cl), f_front, f_raw, f_ids, f_homes, f_cellCount, (nI ol), ops, fA, fB, fC, ow, kd, en, et, eu, ou, vl, rn, co, cx, cy, cz, ct, cs, be, cc, od, us, ce, mo, dn1, bu))
    (h0 : f_phase = 0 → 0 < bc → kd (bc - 1) ≠ -1 → (∀ n, n < nc → ¬ zr_bn nc ops fA fB fC ow n) → (∀ b, b < bc → ¬ zr_bb VC nc bc ow kd en et eu ou b) → (∀ n, n < nc → ¬ zp_gp ops fA fB fC nc nc n = false) → ∀ cl1 ol1 co1 cx1 cy1 cz1 ct1 cs1 od1 us1 ce1 mo1 dn1 bu1, (∀ b, b < bc → zr_code L OB VC nc ops fA fB fC ow kd en et eu ou co1 cx1 cy1 cz1 ct1 cs1 b 1024) → post 0 ((nI L), f_nodeCap, f_blockCap, (nI VC), (nI OB), (nI nc), (nI bc), 1, 0, (-1), 0, (-1), f_mFill, f_mStore, f_mHalt, f_mJump, (nI cl1), f_front, f_raw, f_ids, f_homes, f_cellCount, (nI ol1), ops, fA, fB, fC, ow, kd, en, et, eu, ou, (zb_clr 32 vl), (zb_clr 6 rn), co1, cx1, cy1, cz1, ct1, cs1, be, cc, od1, us1, ce1, mo1, dn1, bu1)) :
    wpX_compile post ((nI L), f_nodeCap, f_blockCap, (nI VC), (nI OB), (nI nc), (nI bc), f_phase, f_place, f_last, f_result, f_fault, f_mFill, f_mStore, f_mHalt, f_mJump, (nI cl), f_front, f_raw, f_ids, f_homes, f_cellCount, (nI ol), ops, fA, fB, fC, ow, kd, en, et, eu, ou, vl, rn, co, cx, cy, cz, ct, cs, be, cc, od, us, ce, mo, dn, bu) := by
  refine br_c (fun p0 => ?_) (fun p0 => h2 p0)
  refine pk_eq bc 0 (fun b0 => h4' p0 b0) (fun b0 => ?_)
  have e1 : nI bc - 1 = nI (bc - 1) := bz_sub1 (by omega)
  rw [e1, nI_clamp (show bc - 1 < 2 ^ 31 by omega)]
  refine And.intro (vp_in_nI (by omega) (by decide)) (br_c (fun k1 => nm_e (h5 p0 (by omega) k1)) (fun k1 => ?_))
  refine zx_fbn hn ?_
  intro r hr
  rcases hr with ⟨rfl, hg⟩ | ⟨n, hn', rfl, hbad, hl⟩
  · refine br_t rfl (zx_fbb hn hb6 hV ?_)
    intro r hr
    rcases hr with ⟨rfl, hgb⟩ | ⟨b, hb', rfl, hbad, hl⟩
    · have ho := zr_OKof hw hn hV hg
      refine br_t rfl (zx_fug hn ho ?_)
      intro r dn1 hr
      rcases hr with ⟨rfl, hgg⟩ | ⟨n, hn', rfl, hbad, hl⟩
      · obtain ⟨p, hp⟩ := zp_rank ho (fun n hn' => by
          have := hgg n hn'
          cases hq : zp_gp ops fA fB fC nc nc n with
          | true => rfl
          | false => exact absurd hq this)
        refine br_t rfl (nm_e ⟨bc + 1, ?_⟩)
        exact zx_comp124 h4 h12 hO1 hOL hOV hV hn hb6 ho (fun n hn' => (hw n hn').1) (fun b hb' => zr_EGof (hgb b hb')) hp (h0 p0 (by omega) k1 hg hgb hgg) bc 0 (by omega) 0 _ _ _ _ _ _ _ _ _ _ _ _ _ (by omega) pk_us (fun b' hb' => absurd hb' (by omega))
      · exact br_f (bz_n1 (by omega)) (h13 p0 (by omega) k1 hg hgb n dn1 hn' hbad hl)
    · exact br_f (bz_n1 (by omega)) (h10 p0 (by omega) k1 hg b hb' hbad hl)
  · exact br_f (bz_n1 (by omega)) (h9 p0 (by omega) k1 n hn' hbad hl)
end ZX
end
section
/-! X's machine at run time -/
def zr_sl (L fr i : Nat) : Nat := if fr + i < L then fr + i else fr + i - L
def zr_BR (L fr : Nat) (be D : Nat → Int32) : Prop := fr < L ∧ ∀ i, i < L → be (zr_sl L fr i) = D i
theorem zr_slL {L fr i : Nat} (h : fr < L) (hi : i < L) : zr_sl L fr i < L := by
  unfold zr_sl
  split <;> omega
theorem zr_BRd {L fr : Nat} {be D : Nat → Int32} {r : Int32} (h : zr_BR L fr be D) : zr_BR L (if fr = 0 then L - 1 else fr - 1) (upd be (if fr = 0 then L - 1 else fr - 1) r) (zm_sh r D) := by
  obtain ⟨h1, h2⟩ := h
  have hf : (if fr = 0 then L - 1 else fr - 1) < L := by split <;> omega
  refine ⟨hf, fun i hi => ?_⟩
  unfold zm_sh
  by_cases c : i = 0
  · rw [if_pos c, c]
    have : zr_sl L (if fr = 0 then L - 1 else fr - 1) 0 = (if fr = 0 then L - 1 else fr - 1) := by
      unfold zr_sl
      rw [Nat.add_zero, if_pos hf]
    rw [this, pk_us]
  · rw [if_neg c]
    have e : zr_sl L (if fr = 0 then L - 1 else fr - 1) i = zr_sl L fr (i - 1) := by
      unfold zr_sl
      by_cases z : fr = 0
      · rw [if_pos z, if_neg (by omega), if_pos (by omega)]
        omega
      · rw [if_neg z]
        by_cases y : fr - 1 + i < L
        · rw [if_pos y, if_pos (by omega)]; omega
        · rw [if_neg y, if_neg (by omega)]; omega
    rw [e, pk_un]
    · exact h2 (i - 1) (by omega)
    · unfold zr_sl
      by_cases z : fr = 0
      · rw [if_pos z, if_pos (by omega)]; omega
      · rw [if_neg z]
        by_cases y : fr + (i - 1) < L
        · rw [if_pos y]; omega
        · rw [if_neg y]; omega
section ZX
variable {L VC OB nc bc cl ol : Nat} {f_nodeCap f_blockCap f_phase f_place f_last f_result f_fault f_mFill f_mStore f_mHalt f_mJump f_front f_raw f_ids f_homes f_cellCount : Int32} {ops fA fB fC ow kd en et eu ou vl rn co cx cy cz ct cs be cc od us ce mo dn bu : Nat → Int32}
variable {fr : Nat}
theorem zx_slot {i : Nat} {post : Int32 → Prop} (h12 : L ≤ 12) (hf : fr < L) (hi : i < L) (h : post (nI (zr_sl L fr i))) : wpX_slot post ((nI L), f_nodeCap, f_blockCap, (nI VC), (nI OB), (nI nc), (nI bc), f_phase, f_place, f_last, f_result, f_fault, f_mFill, f_mStore, f_mHalt, f_mJump, (nI cl), (nI fr), f_raw, f_ids, f_homes, f_cellCount, (nI ol), ops, fA, fB, fC, ow, kd, en, et, eu, ou, vl, rn, co, cx, cy, cz, ct, cs, be, cc, od, us, ce, mo, dn, bu) (nI i) := by
  unfold zr_sl at h
  refine nm_r (nI_add fr i) (pk_lt (fr + i) L (fun c => ?_) (fun c => ?_))
  · rw [if_pos c] at h; exact h
  · rw [if_neg (by omega)] at h
    rw [pk_sub c]
    exact h
theorem zx_peek {D : Nat → Int32} {x : Int32} {post : Int32 → Prop} (h12 : L ≤ 12) (hB : zr_BR L fr be D) (hx : zb_IN x L) (h : post (D x.toNatClampNeg)) : wpX_peek post ((nI L), f_nodeCap, f_blockCap, (nI VC), (nI OB), (nI nc), (nI bc), f_phase, f_place, f_last, f_result, f_fault, f_mFill, f_mStore, f_mHalt, f_mJump, (nI cl), (nI fr), f_raw, f_ids, f_homes, f_cellCount, (nI ol), ops, fA, fB, fC, ow, kd, en, et, eu, ou, vl, rn, co, cx, cy, cz, ct, cs, be, cc, od, us, ce, mo, dn, bu) x := by
  obtain ⟨i, hi, rfl⟩ := hx
  have hs := zr_slL hB.1 hi
  rw [nI_clamp (show i < 2 ^ 31 by omega)] at h
  unfold wpX_peek
  dsimp only
  refine zx_slot h12 hB.1 hi (And.intro (vp_in_nI (by omega) (by decide)) ?_)
  rw [nI_clamp (show zr_sl L fr i < 2 ^ 31 by omega), hB.2 i hi]
  exact h
theorem zx_alu {op x y z : Int32} {k : Nat} {post : Int32 → Prop} (h1 : 1 ≤ k) (h16 : k < 16) (ho : op = nI k) (h : post (if op = 1 then x else zp_alu op x y z)) : wpX_alu post ((nI L), f_nodeCap, f_blockCap, (nI VC), (nI OB), (nI nc), (nI bc), f_phase, f_place, f_last, f_result, f_fault, f_mFill, f_mStore, f_mHalt, f_mJump, (nI cl), f_front, f_raw, f_ids, f_homes, f_cellCount, (nI ol), ops, fA, fB, fC, ow, kd, en, et, eu, ou, vl, rn, co, cx, cy, cz, ct, cs, be, cc, od, us, ce, mo, dn, bu) op x y z := by
  by_cases k1 : k = 1
  · rw [k1] at ho
    rw [ho, if_pos (show nI 1 = 1 from rfl)] at h
    rw [ho]
    exact br_t (show nI 1 < 2 by decide) h
  have n1 : ¬ op = 1 := by
    rw [ho]
    intro e
    exact k1 (bz_inj (b := 1) e (by omega) (by omega))
  rw [if_neg n1] at h
  refine br_f (by rw [ho]; exact nI_nlt (b := 2) (by omega) (by omega)) (br_f (by rw [ho]; exact nI_nlt (a := 15) (by omega) (by omega)) ?_)
  unfold zp_alu at h
  refine br_c (fun e => ?_) (fun e => ?_)
  · rw [if_pos e] at h; exact h
  rw [if_neg e] at h
  refine br_c (fun e => ?_) (fun e => ?_)
  · rw [if_pos e] at h; exact h
  rw [if_neg e] at h
  refine br_c (fun e => ?_) (fun e => ?_)
  · rw [if_pos e] at h; exact h
  rw [if_neg e] at h
  refine br_c (fun e => ?_) (fun e => ?_)
  · rw [if_pos e] at h; exact h
  rw [if_neg e] at h
  refine br_c (fun e => ?_) (fun e => ?_)
  · rw [if_pos e] at h
    refine br_c (fun e2 => ?_) (fun e2 => ?_)
    · rw [if_pos e2] at h; exact h
    · rw [if_neg e2] at h; exact ⟨e2, h⟩
  rw [if_neg e] at h
  refine br_c (fun e => ?_) (fun e => ?_)
  · rw [if_pos e] at h
    refine br_c (fun e2 => ?_) (fun e2 => ?_)
    · rw [if_pos e2] at h; exact h
    · rw [if_neg e2] at h; exact ⟨e2, h⟩
  rw [if_neg e] at h
  refine br_c (fun e => ?_) (fun e => ?_)
  · rw [if_pos e] at h; exact h
  rw [if_neg e] at h
  refine br_c (fun e => ?_) (fun e => ?_)
  · rw [if_pos e] at h; exact h
  rw [if_neg e] at h
  refine br_c (fun e => ?_) (fun e => ?_)
  · rw [if_pos e] at h; exact h
  rw [if_neg e] at h
  refine br_c (fun e => ?_) (fun e => ?_)
  · rw [if_pos e] at h; exact h
  rw [if_neg e] at h
  refine br_c (fun e => ?_) (fun e => ?_)
  · rw [if_pos e] at h; exact h
  rw [if_neg e] at h
  refine br_c (fun e => ?_) (fun e => ?_)
  · rw [if_pos e] at h
    refine br_c (fun e2 => ?_) (fun e2 => ?_)
    · rw [if_pos e2] at h; exact h
    · rw [if_neg e2] at h; exact h
  rw [if_neg e] at h
  refine br_c (fun e => ?_) (fun e => ?_)
  · rw [if_pos e] at h
    refine br_c (fun e2 => ?_) (fun e2 => ?_)
    · rw [if_pos e2] at h; exact h
    · rw [if_neg e2] at h; exact h
  rw [if_neg e] at h
  refine br_c (fun e => ?_) (fun _ => True.intro)
  refine br_c (fun e2 => ?_) (fun e2 => ?_)
  · rw [if_pos e2] at h; exact h
  · rw [if_neg e2] at h; exact h
theorem zx_outcome {m : zm_M} {pc : Nat} {post : Int32 → Prop} (h12 : L ≤ 12) (hB : zr_BR L fr be m.1) (hc : cc = m.2.1) (hp : pc < 1024) (hi : zm_okI L (co pc) (cx pc) (cy pc) (cz pc) (ct pc)) (h17 : co pc ≠ 17) (h : post (zm_res (co pc) (cx pc) (cy pc) (cz pc) m)) : wpX_outcome post ((nI L), f_nodeCap, f_blockCap, (nI VC), (nI OB), (nI nc), (nI bc), f_phase, f_place, f_last, f_result, f_fault, f_mFill, f_mStore, f_mHalt, f_mJump, (nI cl), (nI fr), f_raw, f_ids, f_homes, f_cellCount, (nI ol), ops, fA, fB, fC, ow, kd, en, et, eu, ou, vl, rn, co, cx, cy, cz, ct, cs, be, cc, od, us, ce, mo, dn, bu) (nI pc) := by
  have hin : vp_in (nI pc) 1024 := vp_in_nI hp (by decide)
  refine And.intro hin ?_
  rw [nI_clamp (show pc < 2 ^ 31 by omega)]
  unfold zm_res at h
  refine br_c (fun e => And.intro hin ?_) (fun e => And.intro hin ?_)
  · rw [if_pos e] at h; exact h
  rw [if_neg e] at h
  refine br_c (fun e2 => And.intro hin ?_) (fun e2 => And.intro hin ?_)
  · rw [if_pos e2] at h
    rcases hi.1 with z | ⟨_, z⟩ | ⟨z, _⟩ | ⟨⟨k, k1, k2, z⟩, _⟩
    · exact absurd z e
    · exact And.intro (zb_INin z (by decide)) (hc ▸ h)
    · exact absurd z h17
    · rw [z] at e2
      have := bz_inj (b := 16) e2 (by omega) (by omega)
      omega
  rw [if_neg e2] at h
  rcases hi.1 with z | ⟨z, _⟩ | ⟨z, _⟩ | ⟨⟨k, k1, k2, z⟩, zx, zy, zz⟩
  · exact absurd z e
  · exact absurd z e2
  · exact absurd z h17
  · exact zx_peek h12 hB zx (And.intro hin (zx_peek h12 hB zy (And.intro hin (zx_peek h12 hB zz (And.intro hin (zx_alu k1 k2 z h))))))
theorem zx_drop {m : zm_M} {pc : Nat} {post : SX → Prop} (h4 : 4 ≤ L) (h12 : L ≤ 12) (hB : zr_BR L fr be m.1) (hc : cc = m.2.1) (hp : pc < 1024) (hi : zm_okI L (co pc) (cx pc) (cy pc) (cz pc) (ct pc)) (h17 : co pc ≠ 17)
    (h : post ((nI L), f_nodeCap, f_blockCap, (nI VC), (nI OB), (nI nc), (nI bc), f_phase, f_place, f_last, f_result, f_fault, f_mFill, f_mStore, f_mHalt, f_mJump, (nI cl), (nI (if fr = 0 then L - 1 else fr - 1)), f_raw, f_ids, f_homes, f_cellCount, (nI ol), ops, fA, fB, fC, ow, kd, en, et, eu, ou, (if ct pc = -1 then vl else upd vl (ct pc).toNatClampNeg (zm_res (co pc) (cx pc) (cy pc) (cz pc) m)), rn, co, cx, cy, cz, ct, cs, (upd be (if fr = 0 then L - 1 else fr - 1) (zm_res (co pc) (cx pc) (cy pc) (cz pc) m)), cc, od, us, ce, mo, dn, bu)) : wpX_drop post ((nI L), f_nodeCap, f_blockCap, (nI VC), (nI OB), (nI nc), (nI bc), f_phase, f_place, f_last, f_result, f_fault, f_mFill, f_mStore, f_mHalt, f_mJump, (nI cl), (nI fr), f_raw, f_ids, f_homes, f_cellCount, (nI ol), ops, fA, fB, fC, ow, kd, en, et, eu, ou, vl, rn, co, cx, cy, cz, ct, cs, be, cc, od, us, ce, mo, dn, bu) (nI pc) := by
  have hin : vp_in (nI pc) 1024 := vp_in_nI hp (by decide)
  have hf := hB.1
  unfold wpX_drop
  dsimp only
  refine zx_outcome h12 hB hc hp hi h17 ?_
  have k29 : ∀ f, f < L → post ((nI L), f_nodeCap, f_blockCap, (nI VC), (nI OB), (nI nc), (nI bc), f_phase, f_place, f_last, f_result, f_fault, f_mFill, f_mStore, f_mHalt, f_mJump, (nI cl), (nI f), f_raw, f_ids, f_homes, f_cellCount, (nI ol), ops, fA, fB, fC, ow, kd, en, et, eu, ou, (if ct pc = -1 then vl else upd vl (ct pc).toNatClampNeg (zm_res (co pc) (cx pc) (cy pc) (cz pc) m)), rn, co, cx, cy, cz, ct, cs, (upd be f (zm_res (co pc) (cx pc) (cy pc) (cz pc) m)), cc, od, us, ce, mo, dn, bu) → wX_drop_29 post (nI pc) (zm_res (co pc) (cx pc) (cy pc) (cz pc) m) (nI f) (nI L) f_nodeCap f_blockCap (nI VC) (nI OB) (nI nc) (nI bc) f_phase f_place f_last f_result f_fault f_mFill f_mStore f_mHalt f_mJump (nI cl) (nI fr) f_raw f_ids f_homes f_cellCount (nI ol) ops fA fB fC ow kd en et eu ou vl rn co cx cy cz ct cs be cc od us ce mo dn bu := by
    intro f hf' h
    refine And.intro (vp_in_nI (by omega) (by decide)) ?_
    rw [nI_clamp (show f < 2 ^ 31 by omega), nI_clamp (show pc < 2 ^ 31 by omega)]
    refine nm_e (And.intro hin (br_c (fun e => ?_) (fun e => And.intro hin (And.intro ?_ (nm_e ?_)))))
    · rw [if_pos e] at h; exact h
    · exact zb_INin (hi.2.resolve_left e) (by decide)
    · rw [if_neg e] at h; exact h
  refine pk_eq fr 0 (fun e => ?_) (fun e => ?_)
  · rw [if_pos e] at h
    rw [bz_sub1 (show 0 < L by omega)]
    exact k29 _ (by omega) h
  · rw [if_neg e] at h
    rw [bz_sub1 (show 0 < fr by omega)]
    exact k29 _ (by omega) h
def zr_tp (kd : Nat → Int32) (b : Nat) (ph : Int32) : Int32 := if kd b = 0 then 2 else ph
def zr_tl (kd et eu : Nat → Int32) (b : Nat) (x : Int32) : Int32 := if kd b = 0 then -1 else if kd b = 1 then et b else if x = 0 then eu b else et b
def zr_tr (kd : Nat → Int32) (b : Nat) (x r : Int32) : Int32 := if kd b = 0 then x else r
theorem zx_transfer {D : Nat → Int32} {pc b : Nat} {post : SX → Prop} (h12 : L ≤ 12) (hOL : OB < L) (hB : zr_BR L fr be D) (hp : pc < 1024) (hk : kd b = 0 ∨ kd b = 1 ∨ kd b = 2) (h1 : co pc = 18 + kd b) (h2 : cx pc = nI OB) (h3 : cy pc = et b) (h4 : cz pc = eu b)
    (h : post ((nI L), f_nodeCap, f_blockCap, (nI VC), (nI OB), (nI nc), (nI bc), (zr_tp kd b f_phase), (zr_tl kd et eu b (D OB)), f_last, (zr_tr kd b (D OB) f_result), f_fault, f_mFill, f_mStore, f_mHalt, f_mJump, (nI cl), (nI fr), f_raw, f_ids, f_homes, f_cellCount, (nI ol), ops, fA, fB, fC, ow, kd, en, et, eu, ou, vl, rn, co, cx, cy, cz, ct, cs, be, cc, od, us, ce, mo, dn, bu)) : wpX_transfer post ((nI L), f_nodeCap, f_blockCap, (nI VC), (nI OB), (nI nc), (nI bc), f_phase, f_place, f_last, f_result, f_fault, f_mFill, f_mStore, f_mHalt, f_mJump, (nI cl), (nI fr), f_raw, f_ids, f_homes, f_cellCount, (nI ol), ops, fA, fB, fC, ow, kd, en, et, eu, ou, vl, rn, co, cx, cy, cz, ct, cs, be, cc, od, us, ce, mo, dn, bu) (nI pc) := by
  have hin : vp_in (nI pc) 1024 := vp_in_nI hp (by decide)
  refine And.intro hin ?_
  rw [nI_clamp (show pc < 2 ^ 31 by omega), h2]
  refine zx_peek h12 hB (zb_INof hOL) (And.intro hin ?_)
  rw [nI_clamp (show OB < 2 ^ 31 by omega), h1, h3, h4]
  unfold zr_tp zr_tl zr_tr at h
  rcases hk with k | k | k
  · rw [k] at h ⊢
    exact br_t (by decide) h
  · rw [k] at h ⊢
    exact br_f (by decide) (And.intro hin (br_t (by decide) (And.intro hin (nm_e h))))
  · rw [k] at h ⊢
    refine br_f (by decide) (And.intro hin (br_f (by decide) (br_c (fun e => And.intro hin (nm_e ?_)) (fun e => And.intro hin (nm_e ?_)))))
    · rw [if_neg (show ¬ (2 : Int32) = 0 by decide), if_neg (show ¬ (2 : Int32) = 1 by decide), if_pos e] at h; exact h
    · rw [if_neg (show ¬ (2 : Int32) = 0 by decide), if_neg (show ¬ (2 : Int32) = 1 by decide), if_neg e] at h; exact h
theorem zx_ex22 {lo n b : Nat} {m0 : zm_M} (h4 : 4 ≤ L) (h12 : L ≤ 12) (hOL : OB < L) (hb : b < 6) (ht : lo + n + 1 ≤ 1024) (hk : kd b = 0 ∨ kd b = 1 ∨ kd b = 2) (hcs : cs (b + 1) = nI (lo + n + 1)) (hok : ∀ i, i < n → zm_okI L (co (lo + i)) (cx (lo + i)) (cy (lo + i)) (cz (lo + i)) (ct (lo + i))) (h1 : co (lo + n) = 18 + kd b) (h2 : cx (lo + n) = nI OB) (h3 : cy (lo + n) = et b) (h4' : cz (lo + n) = eu b) :
    ∀ d i, i + d = n → ∀ fr be, zr_BR L fr be (zm_exe co cx cy cz ct lo i m0).1 → ∃ fr1 be1, zr_BR L fr1 be1 (zm_exe co cx cy cz ct lo n m0).1 ∧ ∀ post : SX → Prop, post ((nI L), f_nodeCap, f_blockCap, (nI VC), (nI OB), (nI nc), (nI bc), (zr_tp kd b f_phase), (zr_tl kd et eu b ((zm_exe co cx cy cz ct lo n m0).1 OB)), f_last, (zr_tr kd b ((zm_exe co cx cy cz ct lo n m0).1 OB) f_result), f_fault, f_mFill, f_mStore, f_mHalt, f_mJump, (nI cl), (nI fr1), f_raw, f_ids, f_homes, f_cellCount, (nI ol), ops, fA, fB, fC, ow, kd, en, et, eu, ou, ((zm_exe co cx cy cz ct lo n m0).2.2), rn, co, cx, cy, cz, ct, cs, be1, ((zm_exe co cx cy cz ct lo n m0).2.1), od, us, ce, mo, dn, bu) → wX_execute_22 post (nI b) (d + 2) (nI (lo + i)) (nI L) f_nodeCap f_blockCap (nI VC) (nI OB) (nI nc) (nI bc) f_phase f_place f_last f_result f_fault f_mFill f_mStore f_mHalt f_mJump (nI cl) (nI fr) f_raw f_ids f_homes f_cellCount (nI ol) ops fA fB fC ow kd en et eu ou ((zm_exe co cx cy cz ct lo i m0).2.2) rn co cx cy cz ct cs be ((zm_exe co cx cy cz ct lo i m0).2.1) od us ce mo dn bu := by
  have hi7 : vp_in (nI b + 1) 7 := by
    rw [nI_1]
    exact vp_in_nI (by omega) (by decide)
  have hc7 : (nI b + 1).toNatClampNeg = b + 1 := by
    rw [nI_1]
    exact nI_clamp (by omega)
  intro d
  induction d with
  | zero =>
    intro i hi fr be hB
    obtain rfl : i = n := by omega
    refine ⟨fr, be, hB, fun post h => ?_⟩
    have hin : vp_in (nI (lo + i)) 1024 := vp_in_nI (by omega) (by decide)
    refine And.intro hi7 ?_
    rw [hc7, hcs]
    refine br_f (nI_ge (by omega) (by omega)) (And.intro hin ?_)
    rw [nI_clamp (show lo + i < 2 ^ 31 by omega)]
    have h18 : ¬ co (lo + i) < 18 := by
      rw [h1]
      rcases hk with k | k | k
      · rw [k]; decide
      · rw [k]; decide
      · rw [k]; decide
    refine br_f h18 (zx_transfer h12 hOL hB (by omega) hk h1 h2 h3 h4' (nm_r (nI_1 (lo + i)) ?_))
    refine And.intro hi7 ?_
    rw [hc7, hcs]
    exact br_t (nI_le (by omega) (by omega)) h
  | succ d ih =>
    intro i hi fr be hB
    have hin : vp_in (nI (lo + i)) 1024 := vp_in_nI (by omega) (by decide)
    have ok := hok i (by omega)
    have h18 : co (lo + i) < 18 := by
      rcases ok.1 with z | ⟨z, _⟩ | ⟨z, _⟩ | ⟨⟨k, k1, k2, z⟩, _⟩
      · rw [z]; decide
      · rw [z]; decide
      · rw [z]; decide
      · rw [z]; exact nI_lt (b := 18) (by omega) (by decide)
    by_cases e17 : co (lo + i) = 17
    · have hx : zb_IN (cx (lo + i)) L ∧ zb_IN (cy (lo + i)) 44 := by
        rcases ok.1 with z | ⟨z, _⟩ | ⟨_, z⟩ | ⟨⟨k, k1, k2, z⟩, _⟩
        · rw [z] at e17; exact absurd e17 (by decide)
        · rw [z] at e17; exact absurd e17 (by decide)
        · exact z
        · rw [z] at e17
          have := bz_inj (b := 17) e17 (by omega) (by omega)
          omega
      have es : zm_exe co cx cy cz ct lo (i + 1) m0 = ((zm_exe co cx cy cz ct lo i m0).1, upd (zm_exe co cx cy cz ct lo i m0).2.1 (cy (lo + i)).toNatClampNeg ((zm_exe co cx cy cz ct lo i m0).1 (cx (lo + i)).toNatClampNeg), (zm_exe co cx cy cz ct lo i m0).2.2) := by
        show zm_stp _ _ _ _ _ _ = _
        unfold zm_stp
        rw [if_pos e17]
      obtain ⟨fr1, be1, hB1, hP⟩ := ih (i + 1) (by omega) fr be (by rw [es]; exact hB)
      refine ⟨fr1, be1, hB1, fun post h => ?_⟩
      have hP := hP post h
      rw [es] at hP
      refine And.intro hi7 ?_
      rw [hc7, hcs]
      refine br_f (nI_ge (by omega) (by omega)) (And.intro hin ?_)
      rw [nI_clamp (show lo + i < 2 ^ 31 by omega)]
      exact br_t h18 (And.intro hin (br_t e17 (And.intro hin (And.intro hin (zx_peek h12 hB hx.1 (And.intro (zb_INin hx.2 (by decide)) (nm_e (nm_r (nI_1 (lo + i)) hP))))))))
    · have es : zm_exe co cx cy cz ct lo (i + 1) m0 = (zm_sh (zm_res (co (lo + i)) (cx (lo + i)) (cy (lo + i)) (cz (lo + i)) (zm_exe co cx cy cz ct lo i m0)) (zm_exe co cx cy cz ct lo i m0).1, (zm_exe co cx cy cz ct lo i m0).2.1, if ct (lo + i) = -1 then (zm_exe co cx cy cz ct lo i m0).2.2 else upd (zm_exe co cx cy cz ct lo i m0).2.2 (ct (lo + i)).toNatClampNeg (zm_res (co (lo + i)) (cx (lo + i)) (cy (lo + i)) (cz (lo + i)) (zm_exe co cx cy cz ct lo i m0))) := by
        show zm_stp _ _ _ _ _ _ = _
        unfold zm_stp
        rw [if_neg e17]
      obtain ⟨fr1, be1, hB1, hP⟩ := ih (i + 1) (by omega) _ _ (by rw [es]; exact zr_BRd hB)
      refine ⟨fr1, be1, hB1, fun post h => ?_⟩
      have hP := hP post h
      rw [es] at hP
      refine And.intro hi7 ?_
      rw [hc7, hcs]
      refine br_f (nI_ge (by omega) (by omega)) (And.intro hin ?_)
      rw [nI_clamp (show lo + i < 2 ^ 31 by omega)]
      exact br_t h18 (And.intro hin (br_f e17 (zx_drop h4 h12 hB rfl (by omega) ok e17 (nm_r (nI_1 (lo + i)) hP))))
theorem zx_execute {b : Nat} {D : Nat → Int32} (h4 : 4 ≤ L) (h12 : L ≤ 12) (hOL : OB < L) (hb : b < 6) (hk : kd b = 0 ∨ kd b = 1 ∨ kd b = 2) (hB : zr_BR L fr be D) (hc : zr_code L OB VC nc ops fA fB fC ow kd en et eu ou co cx cy cz ct cs b 1024) {V : Nat → Int32} (hV : zm_Eq ops fA fB fC ow nc b V) (hE : zm_En OB VC V (D, cc, vl)) :
    ∃ fr1 be1 D1 cc1 vl1, zr_BR L fr1 be1 D1 ∧ zr_exit OB VC nc b ow kd en ou V (D, cc, vl) (D1, cc1, vl1) ∧ ∀ post : SX → Prop, post ((nI L), f_nodeCap, f_blockCap, (nI VC), (nI OB), (nI nc), (nI bc), (zr_tp kd b f_phase), (zr_tl kd et eu b (D1 OB)), (nI b), (zr_tr kd b (D1 OB) f_result), f_fault, f_mFill, f_mStore, f_mHalt, f_mJump, (nI cl), (nI fr1), f_raw, f_ids, f_homes, f_cellCount, (nI ol), ops, fA, fB, fC, ow, kd, en, et, eu, ou, vl1, (upd rn b (rn b + 1)), co, cx, cy, cz, ct, cs, be1, cc1, od, us, ce, mo, dn, bu) → wpX_execute post ((nI L), f_nodeCap, f_blockCap, (nI VC), (nI OB), (nI nc), (nI bc), f_phase, f_place, f_last, f_result, f_fault, f_mFill, f_mStore, f_mHalt, f_mJump, (nI cl), (nI fr), f_raw, f_ids, f_homes, f_cellCount, (nI ol), ops, fA, fB, fC, ow, kd, en, et, eu, ou, vl, rn, co, cx, cy, cz, ct, cs, be, cc, od, us, ce, mo, dn, bu) (nI b) := by
  obtain ⟨lo, n, g1, g2, g3, g4, g5, g6, g7, g8, g9⟩ := hc
  obtain ⟨fr1, be1, hB1, hP⟩ := zx_ex22 (VC := VC) (nc := nc) (bc := bc) (cl := cl) (ol := ol) (f_nodeCap := f_nodeCap) (f_blockCap := f_blockCap) (f_phase := f_phase) (f_place := f_place) (f_last := nI b) (f_result := f_result) (f_fault := f_fault) (f_mFill := f_mFill) (f_mStore := f_mStore) (f_mHalt := f_mHalt) (f_mJump := f_mJump) (f_raw := f_raw) (f_ids := f_ids) (f_homes := f_homes) (f_cellCount := f_cellCount) (ops := ops) (fA := fA) (fB := fB) (fC := fC) (ow := ow) (en := en) (ou := ou) (rn := upd rn b (rn b + 1)) (od := od) (us := us) (ce := ce) (mo := mo) (dn := dn) (bu := bu) (m0 := (D, cc, vl)) h4 h12 hOL hb g1 hk g3 g4 g5 g6 g7 g8 n 0 (by omega) fr be hB
  refine ⟨fr1, be1, _, _, _, hB1, g9 V (D, cc, vl) hV hE, fun post h => ?_⟩
  have hin : vp_in (nI b) 6 := vp_in_nI hb (by decide)
  refine And.intro hin ?_
  rw [nI_clamp (show b < 2 ^ 31 by omega)]
  refine And.intro hin (nm_e (And.intro (vp_in_nI (by omega) (by decide)) (nm_r g2 ⟨_, hP post h⟩)))
end ZX
end
section
/-! Y's compile -/
def zr_KB (BC bc : Nat) (kd et eu : Nat → Int32) (b : Nat) : Prop :=
  (kd b = -1 ∧ b + 1 = bc ∧ et b = -1 ∧ eu b = -1) ∨ (kd b = 0 ∧ et b = -1 ∧ eu b = -1) ∨ (kd b = 1 ∧ zb_IN (et b) BC ∧ eu b = -1) ∨ (kd b = 2 ∧ zb_IN (et b) BC ∧ zb_IN (eu b) BC)
def zr_DY (g : Nat → Bool) (gr : Nat → Int32) : Prop := ∀ m, m < 32 → gr m = if g m = true then 1 else 0
section ZY
variable {L VC nc bc : Nat} {f_nodeCap f_blockCap f_phase f_place f_last f_result f_fault : Int32} {ops fA fB fC ow vl gr kd en et eu rn ou va : Nat → Int32}
theorem zy_forget {post : SY → Prop} (h : post ((nI L), f_nodeCap, f_blockCap, (nI VC), f_phase, (nI nc), (nI bc), f_place, (-1), 0, (-1), ops, fA, fB, fC, ow, (zb_clr 32 vl), gr, kd, en, et, eu, (zb_clr 6 rn), ou, va)) : wpY_forget post ((nI L), f_nodeCap, f_blockCap, (nI VC), f_phase, (nI nc), (nI bc), f_place, f_last, f_result, f_fault, ops, fA, fB, fC, ow, vl, gr, kd, en, et, eu, rn, ou, va) := by
  have key2 : ∀ d i, i + d = 6 → ∀ rn1, (∀ j, rn1 j = if j < i then 0 else rn j) → wY_forget_38 post (nI L) f_nodeCap f_blockCap (nI VC) f_phase (nI nc) (nI bc) f_place (-1) 0 (-1) (d + 1) (nI i) ops fA fB fC ow (zb_clr 32 vl) gr kd en et eu rn1 ou va := by
    intro d
    induction d with
    | zero =>
      intro i hi rn1 hr
      obtain rfl : i = 6 := by omega
      have e : rn1 = zb_clr 6 rn := funext hr
      rw [e]
      exact br_t (nI_le (a := 6) (b := 6) (by omega) (by decide)) h
    | succ d ih =>
      intro i hi rn1 hr
      refine br_f (nI_ge (b := 6) (by omega) (by decide)) (And.intro (vp_in_nI (by omega) (by decide)) ?_)
      rw [nI_clamp (show i < 2 ^ 31 by omega)]
      refine nm_e (nm_r (nI_1 i) (ih (i + 1) (by omega) _ (fun j => ?_)))
      by_cases e : j = i
      · rw [e, pk_us, if_pos (by omega)]
      · rw [pk_un e, hr j]
        by_cases c : j < i
        · rw [if_pos c, if_pos (by omega)]
        · rw [if_neg c, if_neg (by omega)]
  have key1 : ∀ d i, i + d = 32 → ∀ vl1, (∀ j, vl1 j = if j < i then 0 else vl j) → wY_forget_17 post (nI L) f_nodeCap f_blockCap (nI VC) f_phase (nI nc) (nI bc) f_place (-1) 0 (-1) (d + 1) (nI i) ops fA fB fC ow vl1 gr kd en et eu rn ou va := by
    intro d
    induction d with
    | zero =>
      intro i hi vl1 hr
      obtain rfl : i = 32 := by omega
      have e : vl1 = zb_clr 32 vl := funext hr
      rw [e]
      refine br_t (nI_le (a := 32) (b := 32) (by omega) (by decide)) ⟨_, key2 6 0 (by omega) rn (fun j => ?_)⟩
      rw [if_neg (by omega)]
    | succ d ih =>
      intro i hi vl1 hr
      refine br_f (nI_ge (b := 32) (by omega) (by decide)) (And.intro (vp_in_nI (by omega) (by decide)) ?_)
      rw [nI_clamp (show i < 2 ^ 31 by omega)]
      refine nm_e (nm_r (nI_1 i) (ih (i + 1) (by omega) _ (fun j => ?_)))
      by_cases e : j = i
      · rw [e, pk_us, if_pos (by omega)]
      · rw [pk_un e, hr j]
        by_cases c : j < i
        · rw [if_pos c, if_pos (by omega)]
        · rw [if_neg c, if_neg (by omega)]
  refine ⟨_, key1 32 0 (by omega) vl (fun j => ?_)⟩
  rw [if_neg (by omega)]
theorem zy_uses {post : Int32 → Prop} {op : Int32} (h : post (nI (zp_fu op))) : wpY_uses post ((nI L), f_nodeCap, f_blockCap, (nI VC), f_phase, (nI nc), (nI bc), f_place, f_last, f_result, f_fault, ops, fA, fB, fC, ow, vl, gr, kd, en, et, eu, rn, ou, va) op := by
  unfold zp_fu at h
  refine br_c (fun e => ?_) (fun e => ?_)
  · rw [if_pos e] at h
    refine br_c (fun e2 => ?_) (fun e2 => ?_)
    · rw [if_pos e2] at h; exact h
    · rw [if_neg e2] at h; exact h
  · rw [if_neg e] at h; exact h
theorem zy_within {post : Int32 → Prop} {x y : Int32} {n : Nat} (hy : y = nI n) (hn : n < 2 ^ 31) (h1 : zb_IN x n → post 1) (h0 : ¬ zb_IN x n → post 0) : wpY_within post ((nI L), f_nodeCap, f_blockCap, (nI VC), f_phase, (nI nc), (nI bc), f_place, f_last, f_result, f_fault, ops, fA, fB, fC, ow, vl, gr, kd, en, et, eu, rn, ou, va) x y := by
  subst hy
  refine br_c (fun c => h0 ?_) (fun c => br_c (fun c2 => h0 ?_) (fun c2 => h1 (bz_ex c c2 hn)))
  · rintro ⟨m, hm, rfl⟩
    exact nI_pos (by omega) c
  · rintro ⟨m, hm, rfl⟩
    exact nI_ge hm (by omega) c2
theorem zy_inBlock {post : Int32 → Prop} {x p : Int32} (hn : nc ≤ 32) (h1 : zr_lv nc ow x p → post 1) (h0 : ¬ zr_lv nc ow x p → post 0) : wpY_inBlock post ((nI L), f_nodeCap, f_blockCap, (nI VC), f_phase, (nI nc), (nI bc), f_place, f_last, f_result, f_fault, ops, fA, fB, fC, ow, vl, gr, kd, en, et, eu, rn, ou, va) x p := by
  refine br_c (fun c => h0 ?_) (fun c => br_c (fun c2 => h0 ?_) (fun c2 => ?_))
  · rintro ⟨m, hm, rfl, _⟩
    exact nI_pos (by omega) c
  · rintro ⟨m, hm, rfl, _⟩
    exact nI_ge hm (by omega) c2
  · obtain ⟨m, hm, rfl⟩ := bz_ex c c2 (by omega)
    refine And.intro (vp_in_nI (by omega) (by decide)) ?_
    rw [nI_clamp (show m < 2 ^ 31 by omega)]
    refine br_c (fun e => h1 ⟨m, hm, rfl, e⟩) (fun e => h0 ?_)
    rintro ⟨m', hm', e', h'⟩
    rw [← bz_inj e' (by omega) (by omega)] at h'
    exact e h'
theorem zy_grounded {post : Int32 → Prop} {m : Nat} (hn : nc ≤ 32) (hm : m < nc) (h1 : gr m ≠ 0 → post 1) (h0 : gr m = 0 → post 0) : wpY_grounded post ((nI L), f_nodeCap, f_blockCap, (nI VC), f_phase, (nI nc), (nI bc), f_place, f_last, f_result, f_fault, ops, fA, fB, fC, ow, vl, gr, kd, en, et, eu, rn, ou, va) (nI m) := by
  refine br_f (nI_pos (by omega)) (br_f (nI_ge hm (by omega)) (And.intro (vp_in_nI (by omega) (by decide)) ?_))
  rw [nI_clamp (show m < 2 ^ 31 by omega)]
  exact br_c (fun e => h0 e) (fun e => h1 e)
theorem zy_61 {post : Int32 → SY → Prop} (hn : nc ≤ 32) (hw : ∀ n, n < nc → ∃ j, j < 16 ∧ ops n = nI j) (hb : ∀ n, n < nc → zr_bn nc ops fA fB fC ow n → (∀ m, m < n → ¬ zr_bn nc ops fA fB fC ow m) → post (-9) ((nI L), f_nodeCap, f_blockCap, (nI VC), f_phase, (nI nc), (nI bc), f_place, f_last, f_result, (nI n), ops, fA, fB, fC, ow, vl, gr, kd, en, et, eu, rn, ou, va)) (hg : (∀ n, n < nc → ¬ zr_bn nc ops fA fB fC ow n) → ∃ n173, wY_compile_173 post (nI L) f_nodeCap f_blockCap (nI VC) f_phase (nI nc) (nI bc) f_place f_last f_result f_fault ops fA fB fC ow vl gr kd en et eu rn ou va n173 0) : ∀ d n, n + d = nc → (∀ m, m < n → ¬ zr_bn nc ops fA fB fC ow m) → wY_compile_61 post (nI L) f_nodeCap f_blockCap (nI VC) f_phase (nI nc) (nI bc) f_place f_last f_result f_fault ops fA fB fC ow vl gr kd en et eu rn ou va (d + 1) (nI n) := by
  intro d
  induction d with
  | zero =>
    intro n hn' hl
    exact br_t (nI_le (by omega) (by omega)) (hg (fun m hm => hl m (by omega)))
  | succ d ih =>
    intro n hn' hl
    have hi : vp_in (nI n) 32 := vp_in_nI (by omega) (by decide)
    have bad : zr_bn nc ops fA fB fC ow n → post (-9) ((nI L), f_nodeCap, f_blockCap, (nI VC), f_phase, (nI nc), (nI bc), f_place, f_last, f_result, (nI n), ops, fA, fB, fC, ow, vl, gr, kd, en, et, eu, rn, ou, va) := fun z => hb n (by omega) z hl
    have nx : ¬ zr_bn nc ops fA fB fC ow n → wY_compile_61 post (nI L) f_nodeCap f_blockCap (nI VC) f_phase (nI nc) (nI bc) f_place f_last f_result f_fault ops fA fB fC ow vl gr kd en et eu rn ou va (d + 1) (nI (n + 1)) := by
      intro z
      refine ih (n + 1) (by omega) (fun m hm => ?_)
      by_cases c : m = n
      · rw [c]; exact z
      · exact hl m (by omega)
    have f3 := zp_fu1 (ops n)
    refine br_f (nI_ge (by omega) (by omega)) (And.intro hi (zy_uses (And.intro hi ?_)))
    rw [nI_clamp (show n < 2 ^ 31 by omega)]
    refine br_c (fun c => nm_r (nI_1 n) (nx (fun z => z.1 c))) (fun c => And.intro hi (And.intro hi ?_))
    have n1 : ¬ ops n = 1 := fun e => c (by rw [e]; exact Int32.le_refl 1)
    have o0 : zp_opI ops fA fB fC n 0 = fA n := by unfold zp_opI; rw [if_neg n1, if_pos rfl]
    have o1 : zp_opI ops fA fB fC n 1 = fB n := by unfold zp_opI; rw [if_neg n1, if_neg (by decide), if_pos rfl]
    have o2 : zp_opI ops fA fB fC n 2 = fC n := by unfold zp_opI; rw [if_neg n1, if_neg (by decide), if_neg (by decide)]
    have k133 : zr_lv nc ow (fA n) (ow n) → (1 < zp_fu (ops n) → zr_lv nc ow (fB n) (ow n)) → wY_compile_133 post (wY_compile_61 post (nI L) f_nodeCap f_blockCap (nI VC) f_phase (nI nc) (nI bc) f_place f_last f_result f_fault ops fA fB fC ow vl gr kd en et eu rn ou va (d + 1)) (nI n) (nI (zp_fu (ops n))) (nI L) f_nodeCap f_blockCap (nI VC) f_phase (nI nc) (nI bc) f_place f_last f_result f_fault ops fA fB fC ow vl gr kd en et eu rn ou va := by
      intro g0 g1
      have fin : (2 < zp_fu (ops n) → zr_lv nc ow (fC n) (ow n)) → ¬ zr_bn nc ops fA fB fC ow n := by
        rintro g2 ⟨_, k, hk, z⟩
        apply z
        have hk3 : k = 0 ∨ k = 1 ∨ k = 2 := by omega
        rcases hk3 with e | e | e
        · rw [e, o0]; exact g0
        · rw [e, o1]; exact g1 (by omega)
        · rw [e, o2]; exact g2 (by omega)
      refine pk_lt (zp_fu (ops n)) 3 (fun c3 => nm_r (nI_1 n) (nx (fin (fun z => absurd z (by omega))))) (fun c3 => And.intro hi (And.intro hi ?_))
      rw [nI_clamp (show n < 2 ^ 31 by omega)]
      refine zy_inBlock hn (fun z => br_f (by decide) (nm_r (nI_1 n) (nx (fin (fun _ => z))))) (fun z => br_t rfl (bad ⟨c, 2, by omega, ?_⟩))
      rw [o2]; exact z
    refine zy_inBlock hn (fun g0 => br_f (by decide) (pk_lt (zp_fu (ops n)) 2 (fun c2 => k133 g0 (fun z => absurd z (by omega))) (fun c2 => And.intro hi (And.intro hi (zy_inBlock hn (fun g1 => br_f (by decide) (k133 g0 (fun _ => g1))) (fun z => br_t rfl (bad ⟨c, 1, by omega, ?_⟩))))))) (fun z => br_t rfl (bad ⟨c, 0, by omega, ?_⟩))
    · rw [o1]; exact z
    · rw [o0]; exact z
theorem zy_badBlock {b BC : Nat} {post : Int32 → Prop} (hb : b < bc) (hb6 : bc ≤ 6) (hn : nc ≤ 32) (hV : VC ≤ 6) (hB : BC ≤ 6) (hk : zr_KB BC bc kd et eu b) (hk1 : kd b ≠ -1) (h1 : zr_bb VC nc bc ow kd en et eu ou b → post 1) (h0 : ¬ zr_bb VC nc bc ow kd en et eu ou b → post 0) : wpY_badBlock post ((nI L), f_nodeCap, f_blockCap, (nI VC), f_phase, (nI nc), (nI bc), f_place, f_last, f_result, f_fault, ops, fA, fB, fC, ow, vl, gr, kd, en, et, eu, rn, ou, va) (nI b) := by
  have hi : vp_in (nI b) 6 := vp_in_nI (by omega) (by decide)
  have hcl : (nI b).toNatClampNeg = b := nI_clamp (by omega)
  have hm1 : ∀ x : Int32, x = -1 → ¬ nI bc ≤ x := by
    intro x hx z
    rw [hx] at z
    exact nI_pos (n := bc) (by omega) (Int32.lt_of_le_of_lt z bz_nm1lt)
  have k106 : (∀ v, v < VC → ou (b * 6 + v) ≠ -1 → zr_lv nc ow (ou (b * 6 + v)) (nI b)) → (kd b ≠ 1 → zr_lv nc ow (en b) (nI b)) → ¬ nI bc ≤ et b → wY_badBlock_106 post (nI b) (nI L) f_nodeCap f_blockCap (nI VC) f_phase (nI nc) (nI bc) f_place f_last f_result f_fault ops fA fB fC ow vl gr kd en et eu rn ou va := by
    intro g1 g2 g3
    have good : ¬ nI bc ≤ eu b → ¬ zr_bb VC nc bc ow kd en et eu ou b := by
      intro g4
      rintro (⟨v, hv, z1, z2⟩ | ⟨z1, z2⟩ | z | z)
      · exact z2 (g1 v hv z1)
      · exact z2 (g2 z1)
      · exact g3 z
      · exact g4 z
    refine And.intro hi ?_
    rw [hcl]
    refine br_c (fun e => And.intro hi (zy_within rfl (by omega) (fun z => br_f (by decide) (h0 (good ?_))) (fun z => br_t rfl (h1 ?_)))) (fun e => h0 (good ?_))
    · obtain ⟨t, ht, et'⟩ := z
      rw [et']
      exact nI_ge ht (by omega)
    · rcases hk with ⟨c, _⟩ | ⟨c, _⟩ | ⟨c, _⟩ | ⟨_, _, t, ht, c⟩
      · exact absurd c hk1
      · rw [c] at e; exact absurd e (by decide)
      · rw [c] at e; exact absurd e (by decide)
      · right; right; right
        rw [c] at z ⊢
        refine nI_le ?_ (by omega)
        by_cases y : bc ≤ t
        · exact y
        · exact absurd ⟨t, by omega, rfl⟩ z
    · rcases hk with ⟨c, _⟩ | ⟨_, _, c⟩ | ⟨_, _, c⟩ | ⟨c, _⟩
      · exact absurd c hk1
      · exact hm1 _ c
      · exact hm1 _ c
      · exact absurd c e
  have k78 : (∀ v, v < VC → ou (b * 6 + v) ≠ -1 → zr_lv nc ow (ou (b * 6 + v)) (nI b)) → (kd b ≠ 1 → zr_lv nc ow (en b) (nI b)) → wY_badBlock_78 post (nI b) (nI L) f_nodeCap f_blockCap (nI VC) f_phase (nI nc) (nI bc) f_place f_last f_result f_fault ops fA fB fC ow vl gr kd en et eu rn ou va := by
    intro g1 g2
    refine And.intro hi ?_
    rw [hcl]
    refine br_c (fun e => k106 g1 g2 ?_) (fun e => And.intro hi (zy_within rfl (by omega) (fun z => br_f (by decide) (k106 g1 g2 ?_)) (fun z => br_t rfl (h1 ?_))))
    · rcases hk with ⟨c, _⟩ | ⟨_, c, _⟩ | ⟨c, _⟩ | ⟨c, _⟩
      · exact absurd c hk1
      · exact hm1 _ c
      · rw [c] at e; exact absurd e (by decide)
      · rw [c] at e; exact absurd e (by decide)
    · obtain ⟨t, ht, et'⟩ := z
      rw [et']
      exact nI_ge ht (by omega)
    · have hin : zb_IN (et b) BC := by
        rcases hk with ⟨c, _⟩ | ⟨c, _⟩ | ⟨_, c, _⟩ | ⟨_, c, _⟩
        · exact absurd c hk1
        · exact absurd c e
        · exact c
        · exact c
      obtain ⟨t, ht, c⟩ := hin
      right; right; left
      rw [c] at z ⊢
      refine nI_le ?_ (by omega)
      by_cases y : bc ≤ t
      · exact y
      · exact absurd ⟨t, by omega, rfl⟩ z
  have k2 : ∀ e v, v + e = VC → (∀ w, w < v → ou (b * 6 + w) ≠ -1 → zr_lv nc ow (ou (b * 6 + w)) (nI b)) → wY_badBlock_2 post (nI b) (nI L) f_nodeCap f_blockCap (nI VC) f_phase (nI nc) (nI bc) f_place f_last f_result f_fault ops fA fB fC ow vl gr kd en et eu rn ou va (e + 1) (nI v) := by
    intro e
    induction e with
    | zero =>
      intro v hv g1
      obtain rfl : v = VC := by omega
      refine br_t (nI_le (by omega) (by omega)) (And.intro hi ?_)
      rw [hcl]
      exact br_c (fun c => k78 g1 (fun z => absurd c z)) (fun c => And.intro hi (zy_inBlock hn (fun z => br_f (by decide) (k78 g1 (fun _ => z))) (fun z => br_t rfl (h1 (Or.inr (Or.inl ⟨c, z⟩))))))
    | succ e ih2 =>
      intro v hv g1
      have hi36 : vp_in (nI (b * 6 + v)) 36 := vp_in_nI (by omega) (by decide)
      refine br_f (nI_ge (by omega) (by omega)) ?_
      rw [bz_6, nI_clamp (show b * 6 + v < 2 ^ 31 by omega)]
      refine And.intro hi36 (br_c (fun c => nm_r (nI_1 v) (ih2 (v + 1) (by omega) (fun w hw hn => ?_))) (fun c => And.intro hi36 (zy_inBlock hn (fun z => br_f (by decide) (nm_r (nI_1 v) (ih2 (v + 1) (by omega) (fun w hw hn => ?_)))) (fun z => br_t rfl (h1 (Or.inl ⟨v, by omega, c, z⟩))))))
      · by_cases c2 : w = v
        · rw [c2] at hn; exact absurd c hn
        · exact g1 w (by omega) hn
      · by_cases c2 : w = v
        · rw [c2]; exact z
        · exact g1 w (by omega) hn
  exact ⟨_, k2 VC 0 (by omega) (fun w hw => absurd hw (by omega))⟩
theorem zy_173 {BC : Nat} {post : Int32 → SY → Prop} (hb6 : bc ≤ 6) (hn : nc ≤ 32) (hV : VC ≤ 6) (hB : BC ≤ 6) (hk : ∀ b, b < bc → zr_KB BC bc kd et eu b) (hk1 : ∀ b, b < bc → kd b ≠ -1) (hb : ∀ b, b < bc → zr_bb VC nc bc ow kd en et eu ou b → (∀ m, m < b → ¬ zr_bb VC nc bc ow kd en et eu ou m) → post (-10) ((nI L), f_nodeCap, f_blockCap, (nI VC), f_phase, (nI nc), (nI bc), f_place, f_last, f_result, (nI b), ops, fA, fB, fC, ow, vl, gr, kd, en, et, eu, rn, ou, va)) (hg : (∀ b, b < bc → ¬ zr_bb VC nc bc ow kd en et eu ou b) → ∃ n205, wY_compile_205 post (nI L) f_nodeCap f_blockCap (nI VC) f_phase (nI nc) (nI bc) f_place f_last f_result f_fault n205 0 ops fA fB fC ow vl gr kd en et eu rn ou va) : ∀ d b, b + d = bc → (∀ m, m < b → ¬ zr_bb VC nc bc ow kd en et eu ou m) → wY_compile_173 post (nI L) f_nodeCap f_blockCap (nI VC) f_phase (nI nc) (nI bc) f_place f_last f_result f_fault ops fA fB fC ow vl gr kd en et eu rn ou va (d + 1) (nI b) := by
  intro d
  induction d with
  | zero =>
    intro b hb' hl
    exact br_t (nI_le (by omega) (by omega)) (hg (fun m hm => hl m (by omega)))
  | succ d ih =>
    intro b hb' hl
    refine br_f (nI_ge (by omega) (by omega)) (zy_badBlock (by omega) hb6 hn hV hB (hk b (by omega)) (hk1 b (by omega)) (fun z => br_f (by decide) (hb b (by omega) z hl)) (fun z => br_t rfl (nm_r (nI_1 b) (ih (b + 1) (by omega) (fun m hm => ?_)))))
    by_cases c : m = b
    · rw [c]; exact z
    · exact hl m (by omega)
theorem zy_301 {i u : Nat} {post : Int32 → SY → Prop} {J1 J2 : Int32 → (Nat → Int32) → (Nat → Int32) → (Nat → Int32) → (Nat → Int32) → (Nat → Int32) → (Nat → Int32) → (Nat → Int32) → (Nat → Int32) → (Nat → Int32) → (Nat → Int32) → (Nat → Int32) → (Nat → Int32) → (Nat → Int32) → (Nat → Int32) → Prop} {x1 : Int32} (hi : i < 32) (hn : nc ≤ 32) (hu : u ≤ 3) (ho : 2 < u → fC i = nI (zp_op ops fA fB fC i 2) ∧ zp_op ops fA fB fC i 2 < nc) (h3 : u ≤ 2 → J2 (nI (i + 1)) ops fA fB fC ow vl (upd gr i 1) kd en et eu rn ou va) (h0 : 2 < u → gr (zp_op ops fA fB fC i 2) = 0 → J2 (nI (i + 1)) ops fA fB fC ow vl (upd gr i 0) kd en et eu rn ou va) (h1 : 2 < u → gr (zp_op ops fA fB fC i 2) ≠ 0 → J2 (nI (i + 1)) ops fA fB fC ow vl (upd gr i 1) kd en et eu rn ou va) : wY_compile_301 post J1 J2 x1 (nI i) (nI u) (nI i) (nI L) f_nodeCap f_blockCap (nI VC) f_phase (nI nc) (nI bc) f_place f_last f_result f_fault ops fA fB fC ow vl gr kd en et eu rn ou va := by
  have hin : vp_in (nI i) 32 := vp_in_nI hi (by decide)
  unfold wY_compile_301
  rw [nI_clamp (show i < 2 ^ 31 by omega), bz_b0, bz_b1]
  refine pk_lt u 3 (fun c => And.intro hin (nm_e (nm_r (nI_1 i) (h3 (by omega))))) (fun c => And.intro hin ?_)
  rw [(ho (by omega)).1]
  exact zy_grounded hn (ho (by omega)).2 (fun z => br_f (by decide) (And.intro hin (nm_e (nm_r (nI_1 i) (h1 (by omega) z))))) (fun z => br_t rfl (And.intro hin (nm_e (nm_r (nI_1 i) (h0 (by omega) z)))))
theorem zy_236 {p : Nat} {post : Int32 → SY → Prop} {J : Int32 → (Nat → Int32) → (Nat → Int32) → (Nat → Int32) → (Nat → Int32) → (Nat → Int32) → (Nat → Int32) → (Nat → Int32) → (Nat → Int32) → (Nat → Int32) → (Nat → Int32) → (Nat → Int32) → (Nat → Int32) → (Nat → Int32) → (Nat → Int32) → Prop} (hn : nc ≤ 32) (hw : ∀ n, n < nc → ∃ j, j < 16 ∧ ops n = nI j) (ho : zp_OK VC nc ops fA fB fC ow) (hJ : ∀ gr1, zr_DY (zp_gp ops fA fB fC nc (p + 1)) gr1 → J (nI (p + 1)) ops fA fB fC ow vl gr1 kd en et eu rn ou va) : ∀ d i, i + d = nc → ∀ gr1, zr_DY (zp_gi ops fA fB fC (zp_gp ops fA fB fC nc p) i) gr1 → wY_compile_236 post J (nI p) (nI L) f_nodeCap f_blockCap (nI VC) f_phase (nI nc) (nI bc) f_place f_last f_result f_fault (d + 1) (nI i) ops fA fB fC ow vl gr1 kd en et eu rn ou va := by
  intro d
  induction d with
  | zero =>
    intro i hi gr1 D
    obtain rfl : i = nc := by omega
    exact br_t (nI_le (by omega) (by omega)) (nm_r (nI_1 p) (hJ _ D))
  | succ d ih =>
    intro i hi gr1 D
    have nx : ∀ x : Int32, x = (if zp_rdy ops fA fB fC (zp_gi ops fA fB fC (zp_gp ops fA fB fC nc p) i) i = true then 1 else 0) → wY_compile_236 post J (nI p) (nI L) f_nodeCap f_blockCap (nI VC) f_phase (nI nc) (nI bc) f_place f_last f_result f_fault (d + 1) (nI (i + 1)) ops fA fB fC ow vl (upd gr1 i x) kd en et eu rn ou va := by
      intro x hx
      refine ih (i + 1) (by omega) _ (fun m hm => ?_)
      show _ = if (if m = i then _ else _) = true then 1 else 0
      by_cases c : m = i
      · rw [if_pos c, c, pk_us]; exact hx
      · rw [if_neg c, pk_un c]; exact D m hm
    have nx1 : (∀ k, k < zp_ar (ops i) → ops i = 1 ∨ zp_gi ops fA fB fC (zp_gp ops fA fB fC nc p) i (zp_op ops fA fB fC i k) = true) → wY_compile_236 post J (nI p) (nI L) f_nodeCap f_blockCap (nI VC) f_phase (nI nc) (nI bc) f_place f_last f_result f_fault (d + 1) (nI (i + 1)) ops fA fB fC ow vl (upd gr1 i 1) kd en et eu rn ou va := by
      intro z
      exact nx 1 (by rw [if_pos (zp_rdyI.mpr z)])
    have hin : vp_in (nI i) 32 := vp_in_nI (by omega) (by decide)
    have f3 := zp_fu1 (ops i)
    refine br_f (nI_ge (by omega) (by omega)) (And.intro hin (zy_uses (And.intro hin ?_)))
    rw [nI_clamp (show i < 2 ^ 31 by omega), bz_b0, bz_b1]
    refine br_c (fun c => And.intro hin (nm_e (nm_r (nI_1 i) (nx1 ?_)))) (fun c => And.intro hin ?_)
    · intro k hk
      obtain ⟨j, hj, ej⟩ := hw i (by omega)
      rw [ej] at c
      have hj1 : j ≤ 1 := by
        have := (nI_leI (a := j) (b := 1) (by omega) (by omega)).mp c
        exact this
      have : j = 0 ∨ j = 1 := by omega
      rcases this with e | e
      · rw [ej, e] at hk
        exact absurd hk (by show ¬ k < 0; omega)
      · left
        rw [ej, e]
        rfl
    · have n1 : ¬ ops i = 1 := fun e => c (by rw [e]; exact Int32.le_refl 1)
      have n0 : ¬ ops i = 0 := fun e => c (by rw [e]; decide)
      have ha : zp_ar (ops i) = zp_fu (ops i) := if_neg n0
      have o0 : zp_opI ops fA fB fC i 0 = fA i := by unfold zp_opI; rw [if_neg n1, if_pos rfl]
      have o1 : zp_opI ops fA fB fC i 1 = fB i := by unfold zp_opI; rw [if_neg n1, if_neg (by decide), if_pos rfl]
      have o2 : zp_opI ops fA fB fC i 2 = fC i := by unfold zp_opI; rw [if_neg n1, if_neg (by decide), if_neg (by decide)]
      have q : ∀ k, k < zp_fu (ops i) → zp_opI ops fA fB fC i k = nI (zp_op ops fA fB fC i k) ∧ zp_op ops fA fB fC i k < nc := fun k hk => ⟨(ho i (by omega) k (by omega)).1, ((ho i (by omega) k (by omega)).2.2.2 n1).1⟩
      have t1 : ∀ k, k < zp_fu (ops i) → gr1 (zp_op ops fA fB fC i k) ≠ 0 → zp_gi ops fA fB fC (zp_gp ops fA fB fC nc p) i (zp_op ops fA fB fC i k) = true := by
        intro k hk z
        rw [D _ (by have := (q k hk).2; omega)] at z
        cases hq : zp_gi ops fA fB fC (zp_gp ops fA fB fC nc p) i (zp_op ops fA fB fC i k) with
        | true => rfl
        | false => rw [hq] at z; exact absurd rfl z
      have nx0 : ∀ k, k < zp_fu (ops i) → gr1 (zp_op ops fA fB fC i k) = 0 → wY_compile_236 post J (nI p) (nI L) f_nodeCap f_blockCap (nI VC) f_phase (nI nc) (nI bc) f_place f_last f_result f_fault (d + 1) (nI (i + 1)) ops fA fB fC ow vl (upd gr1 i 0) kd en et eu rn ou va := by
        intro k hk z
        refine nx 0 ?_
        rw [if_neg]
        intro y
        have := ((zp_rdyI.mp y) k (by omega)).resolve_left n1
        rw [D _ (by have := (q k hk).2; omega), if_pos this] at z
        exact absurd z (by decide)
      have all : (∀ k, k < zp_fu (ops i) → gr1 (zp_op ops fA fB fC i k) ≠ 0) → wY_compile_236 post J (nI p) (nI L) f_nodeCap f_blockCap (nI VC) f_phase (nI nc) (nI bc) f_place f_last f_result f_fault (d + 1) (nI (i + 1)) ops fA fB fC ow vl (upd gr1 i 1) kd en et eu rn ou va := fun z => nx1 (fun k hk => Or.inr (t1 k (by omega) (z k (by omega))))
      have k301 : gr1 (zp_op ops fA fB fC i 0) ≠ 0 → (1 < zp_fu (ops i) → gr1 (zp_op ops fA fB fC i 1) ≠ 0) → wY_compile_301 post J (wY_compile_236 post J (nI p) (nI L) f_nodeCap f_blockCap (nI VC) f_phase (nI nc) (nI bc) f_place f_last f_result f_fault (d + 1)) (nI p) (nI i) (nI (zp_fu (ops i))) (nI i) (nI L) f_nodeCap f_blockCap (nI VC) f_phase (nI nc) (nI bc) f_place f_last f_result f_fault ops fA fB fC ow vl gr1 kd en et eu rn ou va := by
        intro g0 g1
        refine zy_301 (by omega) hn f3.2 (fun z => ⟨by rw [← o2]; exact (q 2 z).1, (q 2 z).2⟩) (fun z => all (fun k hk => ?_)) (fun z y => nx0 2 z y) (fun z y => all (fun k hk => ?_))
        · have : k = 0 ∨ k = 1 := by omega
          rcases this with e | e
          · rw [e]; exact g0
          · rw [e]; exact g1 (by omega)
        · have : k = 0 ∨ k = 1 ∨ k = 2 := by omega
          rcases this with e | e | e
          · rw [e]; exact g0
          · rw [e]; exact g1 (by omega)
          · rw [e]; exact y
      rw [← o0, (q 0 (by omega)).1]
      refine zy_grounded hn (q 0 (by omega)).2 (fun g0 => br_f (by decide) (pk_lt (zp_fu (ops i)) 2 (fun c2 => k301 g0 (fun z => absurd z (by omega))) (fun c2 => And.intro hin ?_))) (fun z => br_t rfl (And.intro hin (nm_e (nm_r (nI_1 i) (nx0 0 (by omega) z)))))
      rw [← o1, (q 1 (by omega)).1]
      exact zy_grounded hn (q 1 (by omega)).2 (fun g1 => br_f (by decide) (k301 g0 (fun _ => g1))) (fun z => br_t rfl (And.intro hin (nm_e (nm_r (nI_1 i) (nx0 1 (by omega) z)))))
theorem zy_205 {post : Int32 → SY → Prop} (hn : nc ≤ 32) (hw : ∀ n, n < nc → ∃ j, j < 16 ∧ ops n = nI j) (ho : zp_OK VC nc ops fA fB fC ow)
    (hb : ∀ n gr1, n < nc → zp_gp ops fA fB fC nc nc n = false → (∀ m, m < n → ¬ zp_gp ops fA fB fC nc nc m = false) → post (-13) ((nI L), f_nodeCap, f_blockCap, (nI VC), f_phase, (nI nc), (nI bc), f_place, f_last, f_result, (nI n), ops, fA, fB, fC, ow, vl, gr1, kd, en, et, eu, rn, ou, va))
    (hg : ∀ gr1, (∀ n, n < nc → ¬ zp_gp ops fA fB fC nc nc n = false) → post 0 ((nI L), f_nodeCap, f_blockCap, (nI VC), 1, (nI nc), (nI bc), 0, (-1), 0, (-1), ops, fA, fB, fC, ow, (zb_clr 32 vl), gr1, kd, en, et, eu, (zb_clr 6 rn), ou, va)) : ∃ n205, wY_compile_205 post (nI L) f_nodeCap f_blockCap (nI VC) f_phase (nI nc) (nI bc) f_place f_last f_result f_fault n205 0 ops fA fB fC ow vl gr kd en et eu rn ou va := by
  have key3 : ∀ gr1, zr_DY (zp_gp ops fA fB fC nc nc) gr1 → ∀ d n, n + d = nc → (∀ m, m < n → ¬ zp_gp ops fA fB fC nc nc m = false) → wY_compile_339 post (nI L) f_nodeCap f_blockCap (nI VC) f_phase (nI nc) (nI bc) f_place f_last f_result f_fault ops fA fB fC ow vl gr1 kd en et eu rn ou va (d + 1) (nI n) := by
    intro gr1 D d
    induction d with
    | zero =>
      intro n hn' hl
      exact br_t (nI_le (by omega) (by omega)) (zy_forget (hg gr1 (fun m hm => hl m (by omega))))
    | succ d ih =>
      intro n hn' hl
      refine br_f (nI_ge (by omega) (by omega)) (And.intro (vp_in_nI (by omega) (by decide)) ?_)
      rw [nI_clamp (show n < 2 ^ 31 by omega), D n (by omega)]
      cases hq : zp_gp ops fA fB fC nc nc n with
      | true =>
        refine br_f (by rw [if_pos rfl]; decide) (nm_r (nI_1 n) (ih (n + 1) (by omega) (fun m hm => ?_)))
        by_cases c : m = n
        · rw [c, hq]; exact fun z => nomatch z
        · exact hl m (by omega)
      | false => exact br_t rfl (hb n gr1 (by omega) hq hl)
  have key2 : ∀ d p, p + d = nc → ∀ gr1, zr_DY (zp_gp ops fA fB fC nc p) gr1 → wY_compile_226 post (nI L) f_nodeCap f_blockCap (nI VC) f_phase (nI nc) (nI bc) f_place f_last f_result f_fault (d + 1) (nI p) ops fA fB fC ow vl gr1 kd en et eu rn ou va := by
    intro d
    induction d with
    | zero =>
      intro p hp gr1 D
      obtain rfl : p = nc := by omega
      exact br_t (nI_le (by omega) (by omega)) ⟨_, key3 gr1 D p 0 (by omega) (fun m hm => absurd hm (by omega))⟩
    | succ d ih =>
      intro p hp gr1 D
      exact br_f (nI_ge (by omega) (by omega)) ⟨_, zy_236 hn hw ho (fun gr2 D2 => ih (p + 1) (by omega) gr2 D2) nc 0 (by omega) gr1 D⟩
  have key1 : ∀ d i, i + d = 32 → ∀ gr1, (∀ m, m < i → gr1 m = 0) → wY_compile_205 post (nI L) f_nodeCap f_blockCap (nI VC) f_phase (nI nc) (nI bc) f_place f_last f_result f_fault (d + 1) (nI i) ops fA fB fC ow vl gr1 kd en et eu rn ou va := by
    intro d
    induction d with
    | zero =>
      intro i hi gr1 hz
      refine br_t (nI_le (a := 32) (by omega) (by omega)) ⟨_, key2 nc 0 (by omega) gr1 (fun m hm => ?_)⟩
      rw [hz m (by omega)]
      rfl
    | succ d ih =>
      intro i hi gr1 hz
      refine br_f (nI_ge (b := 32) (by omega) (by decide)) (And.intro (vp_in_nI (by omega) (by decide)) ?_)
      rw [nI_clamp (show i < 2 ^ 31 by omega), bz_b0]
      refine nm_e (nm_r (nI_1 i) (ih (i + 1) (by omega) _ (fun m hm => ?_)))
      by_cases c : m = i
      · rw [c, pk_us]
      · rw [pk_un c]; exact hz m (by omega)
  exact ⟨_, key1 32 0 (by omega) gr (fun m hm => absurd hm (by omega))⟩
theorem zy_compile {BC : Nat} {post : Int32 → SY → Prop} (hV : VC ≤ 6) (hn : nc ≤ 32) (hb6 : bc ≤ 6) (hB : BC ≤ 6) (hw : ∀ n, n < nc → (∃ j, j < 16 ∧ ops n = nI j) ∧ (ops n = 1 → zb_IN (fA n) VC)) (hk : ∀ b, b < bc → zr_KB BC bc kd et eu b) (p0 : f_phase = 0) (b0 : 0 < bc)
    (h5 : kd (bc - 1) = -1 → post (-5) ((nI L), f_nodeCap, f_blockCap, (nI VC), f_phase, (nI nc), (nI bc), f_place, f_last, f_result, (nI (bc - 1)), ops, fA, fB, fC, ow, vl, gr, kd, en, et, eu, rn, ou, va))
    (h9 : kd (bc - 1) ≠ -1 → ∀ n, n < nc → zr_bn nc ops fA fB fC ow n → (∀ m, m < n → ¬ zr_bn nc ops fA fB fC ow m) → post (-9) ((nI L), f_nodeCap, f_blockCap, (nI VC), f_phase, (nI nc), (nI bc), f_place, f_last, f_result, (nI n), ops, fA, fB, fC, ow, vl, gr, kd, en, et, eu, rn, ou, va))
    (h10 : kd (bc - 1) ≠ -1 → (∀ n, n < nc → ¬ zr_bn nc ops fA fB fC ow n) → ∀ b, b < bc → zr_bb VC nc bc ow kd en et eu ou b → (∀ m, m < b → ¬ zr_bb VC nc bc ow kd en et eu ou m) → post (-10) ((nI L), f_nodeCap, f_blockCap, (nI VC), f_phase, (nI nc), (nI bc), f_place, f_last, f_result, (nI b), ops, fA, fB, fC, ow, vl, gr, kd, en, et, eu, rn, ou, va))
    (h13 : kd (bc - 1) ≠ -1 → (∀ n, n < nc → ¬ zr_bn nc ops fA fB fC ow n) → (∀ b, b < bc → ¬ zr_bb VC nc bc ow kd en et eu ou b) → ∀ n gr1, n < nc → zp_gp ops fA fB fC nc nc n = false → (∀ m, m < n → ¬ zp_gp ops fA fB fC nc nc m = false) → post (-13) ((nI L), f_nodeCap, f_blockCap, (nI VC), f_phase, (nI nc), (nI bc), f_place, f_last, f_result, (nI n), ops, fA, fB, fC, ow, vl, gr1, kd, en, et, eu, rn, ou, va))
    (h0 : kd (bc - 1) ≠ -1 → (∀ n, n < nc → ¬ zr_bn nc ops fA fB fC ow n) → (∀ b, b < bc → ¬ zr_bb VC nc bc ow kd en et eu ou b) → (∀ n, n < nc → ¬ zp_gp ops fA fB fC nc nc n = false) → ∀ gr1, post 0 ((nI L), f_nodeCap, f_blockCap, (nI VC), 1, (nI nc), (nI bc), 0, (-1), 0, (-1), ops, fA, fB, fC, ow, (zb_clr 32 vl), gr1, kd, en, et, eu, (zb_clr 6 rn), ou, va)) : wpY_compile post ((nI L), f_nodeCap, f_blockCap, (nI VC), f_phase, (nI nc), (nI bc), f_place, f_last, f_result, f_fault, ops, fA, fB, fC, ow, vl, gr, kd, en, et, eu, rn, ou, va) := by
  refine br_t p0 (br_f (nI_ne0 b0 (by omega)) ⟨bc + 1, ?_⟩)
  have key : ∀ d b, b + d = bc → (∀ m, m < b → kd m ≠ -1) → wY_compile_27 post (nI L) f_nodeCap f_blockCap (nI VC) f_phase (nI nc) (nI bc) f_place f_last f_result f_fault ops fA fB fC ow vl gr kd en et eu rn ou va (d + 1) (nI b) := by
    intro d
    induction d with
    | zero =>
      intro b hb hl
      have hk1 : ∀ b, b < bc → kd b ≠ -1 := fun m hm => hl m (by omega)
      have hl' := hk1 (bc - 1) (by omega)
      refine br_t (nI_le (by omega) (by omega)) ⟨_, zy_61 hn (fun n hn' => (hw n hn').1) (h9 hl') (fun g => ⟨_, zy_173 hb6 hn hV hB hk hk1 (h10 hl' g) (fun g2 => zy_205 hn (fun n hn' => (hw n hn').1) (zr_OKof hw hn hV g) (h13 hl' g g2) (fun gr1 g3 => h0 hl' g g2 g3 gr1)) bc 0 (by omega) (fun m hm => absurd hm (by omega))⟩) nc 0 (by omega) (fun m hm => absurd hm (by omega))⟩
    | succ d ih =>
      intro b hb hl
      refine br_f (nI_ge (by omega) (by omega)) (And.intro (vp_in_nI (by omega) (by decide)) ?_)
      rw [nI_clamp (show b < 2 ^ 31 by omega)]
      refine br_c (fun e => ?_) (fun e => nm_r (nI_1 b) (ih (b + 1) (by omega) (fun m hm => ?_)))
      · have hbb : b = bc - 1 := by
          rcases hk b (by omega) with ⟨_, z, _⟩ | ⟨z, _⟩ | ⟨z, _⟩ | ⟨z, _⟩
          · omega
          · rw [z] at e; exact absurd e (by decide)
          · rw [z] at e; exact absurd e (by decide)
          · rw [z] at e; exact absurd e (by decide)
        rw [hbb] at e ⊢
        exact h5 e
      · by_cases c : m = b
        · rw [c]; exact e
        · exact hl m (by omega)
  exact key bc 0 (by omega) (fun m hm => absurd hm (by omega))
end ZY
end
section
/-! Y's execution -/
def zy_vv (nc : Nat) (vl : Nat → Int32) (x : Int32) : Int32 := if x < 0 then 0 else if nI nc ≤ x then 0 else vl x.toNatClampNeg
def zy_yi (ops fA fB fC ow va : Nat → Int32) (b : Nat) (vl : Nat → Int32) : Nat → Nat → Int32
  | 0 => vl
  | i + 1 => if ow i = nI b then upd (zy_yi ops fA fB fC ow va b vl i) i (zp_val ops fA fB fC i (zp_cmb (zy_yi ops fA fB fC ow va b vl i) va)) else zy_yi ops fA fB fC ow va b vl i
def zy_yp (ops fA fB fC ow va : Nat → Int32) (b nc : Nat) (vl : Nat → Int32) : Nat → Nat → Int32
  | 0 => vl
  | p + 1 => zy_yi ops fA fB fC ow va b (zy_yp ops fA fB fC ow va b nc vl p) nc
def zy_va (ou va vl : Nat → Int32) (b n : Nat) : Nat → Int32 := fun v => if v < n ∧ ou (b * 6 + v) ≠ -1 then vl (ou (b * 6 + v)).toNatClampNeg else va v
section ZP
variable {VC nc b : Nat} {ops fA fB fC ow va vl V : Nat → Int32} {p : Nat → Nat}
/-- after pass q, up to node i of the next: what has its rank by now is right; other blocks' values stay -/
theorem zy_yiV (hn : nc ≤ 32) (hw : ∀ n, n < nc → ∃ j, j < 16 ∧ ops n = nI j) (ho : zp_OK VC nc ops fA fB fC ow) (hp : zp_RK ops fA fB fC nc p) (hV : ∀ n, n < nc → V n = zp_val ops fA fB fC n (zp_cmb V va)) {q : Nat} (hq : ∀ n, n < nc → ow n = nI b → p n < q → vl n = V n) : ∀ i, i ≤ nc → ∀ n, n < nc → ow n = nI b → (p n < q ∨ (p n = q ∧ n < i)) → zy_yi ops fA fB fC ow va b vl i n = V n := by
  intro i
  induction i with
  | zero =>
    intro _ n hn' hb hr
    exact hq n hn' hb (by omega)
  | succ i ih =>
    intro hi n hn' hb hr
    show (if ow i = nI b then _ else _ : Nat → Int32) n = V n
    by_cases c : ow i = nI b
    · rw [if_pos c]
      by_cases e : n = i
      · subst e
        rw [pk_us, hV n hn']
        refine zp_valc hw hn' (fun k hk => ?_)
        obtain ⟨_, h2, h3, h4⟩ := ho n hn' k hk
        by_cases e1 : ops n = 1
        · have := h3 e1
          unfold zp_cmb
          rw [if_neg (by omega), if_neg (by omega)]
        · have h5 := h4 e1
          have h6 := (hp n hn').2 k hk e1
          unfold zp_cmb
          rw [if_pos (by omega), if_pos (by omega)]
          exact ih (by omega) _ h5.1 (h5.2.trans hb) (by omega)
      · rw [pk_un e]
        exact ih (by omega) n hn' hb (by omega)
    · rw [if_neg c]
      have e : n ≠ i := fun e => c (e ▸ hb)
      exact ih (by omega) n hn' hb (by omega)
theorem zy_yiO : ∀ i, i ≤ nc → ∀ n, ¬ (n < nc ∧ ow n = nI b) → zy_yi ops fA fB fC ow va b vl i n = vl n := by
  intro i
  induction i with
  | zero => intro _ n _; rfl
  | succ i ih =>
    intro hi n hno
    show (if ow i = nI b then _ else _ : Nat → Int32) n = vl n
    by_cases c : ow i = nI b
    · have e : n ≠ i := fun e => hno ⟨by omega, e ▸ c⟩
      rw [if_pos c, pk_un e]
      exact ih (by omega) n hno
    · rw [if_neg c]
      exact ih (by omega) n hno
theorem zy_ypV (hn : nc ≤ 32) (hw : ∀ n, n < nc → ∃ j, j < 16 ∧ ops n = nI j) (ho : zp_OK VC nc ops fA fB fC ow) (hp : zp_RK ops fA fB fC nc p) (hV : ∀ n, n < nc → V n = zp_val ops fA fB fC n (zp_cmb V va)) : ∀ q, ∀ n, n < nc → ow n = nI b → p n < q → zy_yp ops fA fB fC ow va b nc vl q n = V n := by
  intro q
  induction q with
  | zero => intro n _ _ h; omega
  | succ q ih =>
    intro n hn' hb hr
    exact zy_yiV hn hw ho hp hV ih nc (Nat.le_refl _) n hn' hb (by omega)
theorem zy_ypO : ∀ q, ∀ n, ¬ (n < nc ∧ ow n = nI b) → zy_yp ops fA fB fC ow va b nc vl q n = vl n := by
  intro q
  induction q with
  | zero => intro n _; rfl
  | succ q ih =>
    intro n hno
    exact (zy_yiO nc (Nat.le_refl _) n hno).trans (ih n hno)
end ZP
section ZY
variable {L VC nc bc : Nat} {f_nodeCap f_blockCap f_phase f_place f_last f_result f_fault : Int32} {ops fA fB fC ow vl gr kd en et eu rn ou va : Nat → Int32}
variable {b : Nat}
theorem zy_value {post : Int32 → Prop} {x : Int32} (hn : nc ≤ 32) (h : post (zy_vv nc vl x)) : wpY_value post ((nI L), f_nodeCap, f_blockCap, (nI VC), f_phase, (nI nc), (nI bc), f_place, f_last, f_result, f_fault, ops, fA, fB, fC, ow, vl, gr, kd, en, et, eu, rn, ou, va) x := by
  unfold zy_vv at h
  refine br_c (fun c => ?_) (fun c => br_c (fun c2 => ?_) (fun c2 => ?_))
  · rw [if_pos c] at h; exact h
  · rw [if_neg c, if_pos c2] at h; exact h
  · rw [if_neg c, if_neg c2] at h
    obtain ⟨m, hm, rfl⟩ := bz_ex c c2 (by omega)
    exact And.intro (vp_in_nI (by omega) (by decide)) h
theorem zy_vvn {m : Nat} (hn : nc ≤ 32) (hm : m < nc) : zy_vv nc vl (nI m) = vl m := by
  unfold zy_vv
  rw [if_neg (nI_pos (by omega)), if_neg (nI_ge hm (by omega)), nI_clamp (by omega)]
theorem zy_eval {post : Int32 → Prop} {n : Nat} (hc : nc ≤ 32) (hV : VC ≤ 6) (hw : ∀ n, n < nc → ∃ j, j < 16 ∧ ops n = nI j) (ho : zp_OK VC nc ops fA fB fC ow) (hn : n < nc) (h : post (zp_val ops fA fB fC n (zp_cmb vl va))) : wpY_eval post ((nI L), f_nodeCap, f_blockCap, (nI VC), f_phase, (nI nc), (nI bc), f_place, f_last, f_result, f_fault, ops, fA, fB, fC, ow, vl, gr, kd, en, et, eu, rn, ou, va) (nI n) := by
  have hi : vp_in (nI n) 32 := vp_in_nI (by omega) (by decide)
  refine And.intro hi ?_
  rw [nI_clamp (show n < 2 ^ 31 by omega)]
  refine nm_e (br_c (fun e0 => And.intro hi ?_) (fun e0 => br_c (fun e1 => And.intro hi ?_) (fun e1 => And.intro hi ?_)))
  · unfold zp_val at h
    rw [if_pos e0] at h; exact h
  · unfold zp_val at h
    rw [if_neg e0, if_pos e1] at h
    have ha : zp_ar (ops n) = 1 := by rw [e1]; decide
    obtain ⟨p1, p2, p3, _⟩ := ho n hn 0 (by omega)
    obtain ⟨p4, p5⟩ := p3 e1
    unfold zp_cmb at h
    rw [if_neg (by omega)] at h
    have e : (32 : Int32) + fA n = nI (zp_op ops fA fB fC n 0) := by
      rw [← p1]
      unfold zp_opI
      rw [if_pos e1]
    have e2 : fA n = nI (zp_op ops fA fB fC n 0 - 32) := by
      have : nI (zp_op ops fA fB fC n 0) = 32 + nI (zp_op ops fA fB fC n 0 - 32) := by
        rw [bz_32]
        exact congrArg nI (by omega)
      rw [this] at e
      generalize nI (zp_op ops fA fB fC n 0 - 32) = w at e
      grind
    rw [e2]
    refine br_f (nI_pos (by omega)) (br_f (nI_ge (by omega) (by omega)) (And.intro (vp_in_nI (by omega) (by decide)) ?_))
    rw [nI_clamp (show zp_op ops fA fB fC n 0 - 32 < 2 ^ 31 by omega)]
    exact h
  · have ha : zp_ar (ops n) = zp_fu (ops n) := if_neg e0
    have f3 := zp_fu1 (ops n)
    have q : ∀ k, k < zp_ar (ops n) → zp_opI ops fA fB fC n k = nI (zp_op ops fA fB fC n k) ∧ zp_op ops fA fB fC n k < nc := fun k hk => ⟨(ho n hn k hk).1, ((ho n hn k hk).2.2.2 e1).1⟩
    have o0 : zp_opI ops fA fB fC n 0 = fA n := by unfold zp_opI; rw [if_neg e1, if_pos rfl]
    have o1 : zp_opI ops fA fB fC n 1 = fB n := by unfold zp_opI; rw [if_neg e1, if_neg (by decide), if_pos rfl]
    have o2 : zp_opI ops fA fB fC n 2 = fC n := by unfold zp_opI; rw [if_neg e1, if_neg (by decide), if_neg (by decide)]
    have vq : ∀ k, k < zp_ar (ops n) → zy_vv nc vl (zp_opI ops fA fB fC n k) = zp_cmb vl va (zp_op ops fA fB fC n k) := by
      intro k hk
      obtain ⟨q1, q2⟩ := q k hk
      rw [q1, zy_vvn hc q2]
      unfold zp_cmb
      rw [if_pos (by omega)]
    refine zy_value hc (And.intro hi (zy_value hc (And.intro hi (zy_value hc ?_))))
    unfold zp_val at h
    rw [if_neg e0, if_neg e1] at h
    rw [← zp_aluc (hw n hn) e0 e1 (x := zy_vv nc vl (fA n)) (y := zy_vv nc vl (fB n)) (z := zy_vv nc vl (fC n)) (by rw [← o0]; exact vq 0 (by omega)) (fun z => by rw [← o1]; exact vq 1 z) (fun z => by rw [← o2]; exact vq 2 z)] at h
    unfold zp_alu at h
    refine br_c (fun e => ?_) (fun e => ?_)
    · rw [if_pos e] at h; exact h
    rw [if_neg e] at h
    refine br_c (fun e => ?_) (fun e => ?_)
    · rw [if_pos e] at h; exact h
    rw [if_neg e] at h
    refine br_c (fun e => ?_) (fun e => ?_)
    · rw [if_pos e] at h; exact h
    rw [if_neg e] at h
    refine br_c (fun e => ?_) (fun e => ?_)
    · rw [if_pos e] at h; exact h
    rw [if_neg e] at h
    refine br_c (fun e => ?_) (fun e => ?_)
    · rw [if_pos e] at h
      refine br_c (fun e2 => ?_) (fun e2 => ?_)
      · rw [if_pos e2] at h; exact h
      · rw [if_neg e2] at h; exact ⟨e2, h⟩
    rw [if_neg e] at h
    refine br_c (fun e => ?_) (fun e => ?_)
    · rw [if_pos e] at h
      refine br_c (fun e2 => ?_) (fun e2 => ?_)
      · rw [if_pos e2] at h; exact h
      · rw [if_neg e2] at h; exact ⟨e2, h⟩
    rw [if_neg e] at h
    refine br_c (fun e => ?_) (fun e => ?_)
    · rw [if_pos e] at h; exact h
    rw [if_neg e] at h
    refine br_c (fun e => ?_) (fun e => ?_)
    · rw [if_pos e] at h; exact h
    rw [if_neg e] at h
    refine br_c (fun e => ?_) (fun e => ?_)
    · rw [if_pos e] at h; exact h
    rw [if_neg e] at h
    refine br_c (fun e => ?_) (fun e => ?_)
    · rw [if_pos e] at h; exact h
    rw [if_neg e] at h
    refine br_c (fun e => ?_) (fun e => ?_)
    · rw [if_pos e] at h; exact h
    rw [if_neg e] at h
    refine br_c (fun e => ?_) (fun e => ?_)
    · rw [if_pos e] at h
      refine br_c (fun e2 => ?_) (fun e2 => ?_)
      · rw [if_pos e2] at h; exact h
      · rw [if_neg e2] at h; exact h
    rw [if_neg e] at h
    refine br_c (fun e => ?_) (fun e => ?_)
    · rw [if_pos e] at h
      refine br_c (fun e2 => ?_) (fun e2 => ?_)
      · rw [if_pos e2] at h; exact h
      · rw [if_neg e2] at h; exact h
    rw [if_neg e] at h
    refine br_c (fun e2 => ?_) (fun e2 => ?_)
    · rw [if_pos e2] at h; exact h
    · rw [if_neg e2] at h; exact h
theorem zy_ex27 {q : Nat} {post : SY → Prop} {J : Int32 → (Nat → Int32) → (Nat → Int32) → (Nat → Int32) → (Nat → Int32) → (Nat → Int32) → (Nat → Int32) → (Nat → Int32) → (Nat → Int32) → (Nat → Int32) → (Nat → Int32) → (Nat → Int32) → (Nat → Int32) → (Nat → Int32) → (Nat → Int32) → Prop} (hc : nc ≤ 32) (hV : VC ≤ 6) (hw : ∀ n, n < nc → ∃ j, j < 16 ∧ ops n = nI j) (ho : zp_OK VC nc ops fA fB fC ow) (h : J (nI (q + 1)) ops fA fB fC ow (zy_yi ops fA fB fC ow va b vl nc) gr kd en et eu rn ou va) : ∀ d i, i + d = nc → wY_execute_27 post J (nI b) (nI q) (nI L) f_nodeCap f_blockCap (nI VC) f_phase (nI nc) (nI bc) f_place f_last f_result f_fault (d + 1) (nI i) ops fA fB fC ow (zy_yi ops fA fB fC ow va b vl i) gr kd en et eu rn ou va := by
  intro d
  induction d with
  | zero =>
    intro i hi
    obtain rfl : i = nc := by omega
    exact br_t (nI_le (by omega) (by omega)) (nm_r (nI_1 q) h)
  | succ d ih =>
    intro i hi
    have hin : vp_in (nI i) 32 := vp_in_nI (by omega) (by decide)
    have z := ih (i + 1) (by omega)
    have es : zy_yi ops fA fB fC ow va b vl (i + 1) = if ow i = nI b then upd (zy_yi ops fA fB fC ow va b vl i) i (zp_val ops fA fB fC i (zp_cmb (zy_yi ops fA fB fC ow va b vl i) va)) else zy_yi ops fA fB fC ow va b vl i := rfl
    rw [es] at z
    refine br_f (nI_ge (by omega) (by omega)) (And.intro hin ?_)
    rw [nI_clamp (show i < 2 ^ 31 by omega)]
    refine br_c (fun e => zy_eval hc hV hw ho (by omega) (And.intro hin (nm_e (nm_r (nI_1 i) ?_)))) (fun e => nm_r (nI_1 i) ?_)
    · rw [if_pos e] at z; exact z
    · rw [if_neg e] at z; exact z
theorem zy_ex70 {post : SY → Prop} (hb : b < 6) (hc : nc ≤ 32) (hV : VC ≤ 6) (E : zc_EG VC nc ow kd en ou b) (hk : kd b = 0 ∨ kd b = 1 ∨ kd b = 2) (h : post ((nI L), f_nodeCap, f_blockCap, (nI VC), (zr_tp kd b f_phase), (nI nc), (nI bc), (zr_tl kd et eu b (vl (en b).toNatClampNeg)), f_last, (zr_tr kd b (vl (en b).toNatClampNeg) f_result), f_fault, ops, fA, fB, fC, ow, vl, gr, kd, en, et, eu, rn, ou, (zy_va ou va vl b VC))) : ∀ d v, v + d = VC → wY_execute_70 post (nI b) (nI L) f_nodeCap f_blockCap (nI VC) f_phase (nI nc) (nI bc) f_place f_last f_result f_fault (d + 1) (nI v) ops fA fB fC ow vl gr kd en et eu rn ou (zy_va ou va vl b v) := by
  have hin : vp_in (nI b) 6 := vp_in_nI hb (by decide)
  intro d
  induction d with
  | zero =>
    intro v hv
    obtain rfl : v = VC := by omega
    refine br_t (nI_le (by omega) (by omega)) (And.intro hin ?_)
    rw [nI_clamp (show b < 2 ^ 31 by omega)]
    unfold zr_tp zr_tl zr_tr at h
    rcases hk with k | k | k
    · obtain ⟨m, hm, e2, _⟩ := E.2 (by rw [k]; decide)
      refine br_t k (And.intro hin (zy_value hc ?_))
      rw [k, e2, nI_clamp (show m < 2 ^ 31 by omega)] at h
      rw [e2, zy_vvn hc hm]
      exact h
    · rw [k] at h
      rw [k]
      exact br_f (by decide) (And.intro hin (br_t rfl (And.intro hin (nm_e h))))
    · obtain ⟨m, hm, e2, _⟩ := E.2 (by rw [k]; decide)
      rw [k, e2, nI_clamp (show m < 2 ^ 31 by omega), if_neg (show ¬ (2 : Int32) = 0 by decide), if_neg (show ¬ (2 : Int32) = 0 by decide), if_neg (show ¬ (2 : Int32) = 1 by decide), if_neg (show ¬ (2 : Int32) = 0 by decide)] at h
      rw [k]
      refine br_f (by decide) (And.intro hin (br_f (by decide) (And.intro hin (zy_value hc ?_))))
      rw [e2, zy_vvn hc hm]
      refine br_c (fun e => And.intro hin (nm_e ?_)) (fun e => And.intro hin (nm_e ?_))
      · rw [if_pos e] at h; exact h
      · rw [if_neg e] at h; exact h
  | succ d ih =>
    intro v hv
    have hi36 : vp_in (nI (b * 6 + v)) 36 := vp_in_nI (by omega) (by decide)
    have z := ih (v + 1) (by omega)
    refine br_f (nI_ge (by omega) (by omega)) ?_
    rw [bz_6, nI_clamp (show b * 6 + v < 2 ^ 31 by omega)]
    refine And.intro hi36 (br_c (fun e => nm_r (nI_1 v) ?_) (fun e => And.intro hi36 ?_))
    · have es : zy_va ou va vl b (v + 1) = zy_va ou va vl b v := by
        funext w
        unfold zy_va
        by_cases c : w < v ∧ ou (b * 6 + w) ≠ -1
        · rw [if_pos c, if_pos ⟨by omega, c.2⟩]
        · rw [if_neg c, if_neg]
          rintro ⟨c1, c2⟩
          by_cases c3 : w = v
          · rw [c3] at c2; exact c2 e
          · exact c ⟨by omega, c2⟩
      rw [es] at z
      exact z
    · obtain ⟨m, hm, e2, _⟩ := (E.1 v (by omega)).resolve_left e
      have es : zy_va ou va vl b (v + 1) = upd (zy_va ou va vl b v) v (vl m) := by
        funext w
        by_cases c3 : w = v
        · rw [c3, pk_us]
          unfold zy_va
          rw [if_pos ⟨by omega, e⟩, e2, nI_clamp (by omega)]
        · rw [pk_un c3]
          unfold zy_va
          by_cases c : w < v ∧ ou (b * 6 + w) ≠ -1
          · rw [if_pos c, if_pos ⟨by omega, c.2⟩]
          · rw [if_neg c, if_neg]
            rintro ⟨c1, c2⟩
            exact c ⟨by omega, c2⟩
      rw [es] at z
      refine zy_value hc ?_
      rw [e2, zy_vvn hc hm, nI_clamp (show v < 2 ^ 31 by omega)]
      exact And.intro (vp_in_nI (by omega) (by decide)) (nm_e (nm_r (nI_1 v) z))
theorem zy_execute {post : SY → Prop} (hb : b < 6) (hc : nc ≤ 32) (hV : VC ≤ 6) (hw : ∀ n, n < nc → ∃ j, j < 16 ∧ ops n = nI j) (ho : zp_OK VC nc ops fA fB fC ow) (E : zc_EG VC nc ow kd en ou b) (hk : kd b = 0 ∨ kd b = 1 ∨ kd b = 2)
    (h : post ((nI L), f_nodeCap, f_blockCap, (nI VC), (zr_tp kd b f_phase), (nI nc), (nI bc), (zr_tl kd et eu b (zy_yp ops fA fB fC ow va b nc vl nc (en b).toNatClampNeg)), (nI b), (zr_tr kd b (zy_yp ops fA fB fC ow va b nc vl nc (en b).toNatClampNeg) f_result), f_fault, ops, fA, fB, fC, ow, (zy_yp ops fA fB fC ow va b nc vl nc), gr, kd, en, et, eu, (upd rn b (rn b + 1)), ou, (zy_va ou va (zy_yp ops fA fB fC ow va b nc vl nc) b VC))) : wpY_execute post ((nI L), f_nodeCap, f_blockCap, (nI VC), f_phase, (nI nc), (nI bc), f_place, f_last, f_result, f_fault, ops, fA, fB, fC, ow, vl, gr, kd, en, et, eu, rn, ou, va) (nI b) := by
  have hin : vp_in (nI b) 6 := vp_in_nI hb (by decide)
  have key : ∀ d q, q + d = nc → wY_execute_17 post (nI b) (nI L) f_nodeCap f_blockCap (nI VC) f_phase (nI nc) (nI bc) f_place (nI b) f_result f_fault (d + 1) (nI q) ops fA fB fC ow (zy_yp ops fA fB fC ow va b nc vl q) gr kd en et eu (upd rn b (rn b + 1)) ou va := by
    intro d
    induction d with
    | zero =>
      intro q hq
      obtain rfl : q = nc := by omega
      have z := zy_ex70 (post := post) (L := L) (f_nodeCap := f_nodeCap) (f_blockCap := f_blockCap) (bc := bc) (f_place := f_place) (f_last := nI b) (f_fault := f_fault) (fA := fA) (fB := fB) (fC := fC) (ops := ops) (gr := gr) (rn := upd rn b (rn b + 1)) hb hc hV E hk h VC 0 (by omega)
      have es : zy_va ou va (zy_yp ops fA fB fC ow va b q vl q) b 0 = va := by
        funext w
        unfold zy_va
        rw [if_neg (fun c => absurd c.1 (by omega))]
      rw [es] at z
      exact br_t (nI_le (by omega) (by omega)) ⟨_, z⟩
    | succ d ih =>
      intro q hq
      exact br_f (nI_ge (by omega) (by omega)) ⟨_, zy_ex27 hc hV hw ho (ih (q + 1) (by omega)) nc 0 (by omega)⟩
  refine And.intro hin ?_
  rw [nI_clamp (show b < 2 ^ 31 by omega)]
  exact And.intro hin (nm_e ⟨_, key nc 0 (by omega)⟩)
end ZY
end
section
/-! the relation -/
def zr_cst (L VC OB nc bc fr NC BC : Nat) : Prop := 4 ≤ L ∧ L ≤ 12 ∧ 1 ≤ VC ∧ VC ≤ 6 ∧ 1 ≤ OB ∧ OB < L ∧ OB ≤ VC ∧ 8 ≤ NC ∧ NC ≤ 32 ∧ 2 ≤ BC ∧ BC ≤ 6 ∧ nc ≤ NC ∧ bc ≤ BC ∧ fr < L
def zr_wf (VC nc bc BC : Nat) (ops fA ow kd et eu : Nat → Int32) : Prop :=
  (∀ n, n < nc → (∃ j, j < 16 ∧ ops n = nI j) ∧ (ops n = 1 → zb_IN (fA n) VC) ∧ zb_IN (ow n) bc) ∧ (∀ b, b < bc → zr_KB BC bc kd et eu b)
def zr_yb (bc : Nat) (kd en et eu ou kdY enY etY euY ouY : Nat → Int32) : Prop :=
  (∀ b, b < bc → kdY b = kd b ∧ enY b = en b ∧ etY b = et b ∧ euY b = eu b) ∧ (∀ b, bc ≤ b → b < 6 → kdY b = -1 ∧ enY b = -1 ∧ etY b = -1 ∧ euY b = -1) ∧
  (∀ i, i < bc * 6 → ouY i = ou i) ∧ (∀ i, bc * 6 ≤ i → i < 36 → ouY i = -1)
def zr_bv (L VC OB fr : Nat) (be cc va : Nat → Int32) : Prop := (∀ v, v < OB → be (zr_sl L fr v) = va v) ∧ (∀ v, OB ≤ v → v < VC → cc v = va v)
def zr_gd (L OB VC nc bc : Nat) (ops fA fB fC ow kd en et eu ou co cx cy cz ct cs : Nat → Int32) : Prop :=
  0 < bc ∧ zp_OK VC nc ops fA fB fC ow ∧ (∀ b, b < bc → zc_EG VC nc ow kd en ou b) ∧ (∃ p, zp_RK ops fA fB fC nc p) ∧
  (∀ b, b < bc → zr_code L OB VC nc ops fA fB fC ow kd en et eu ou co cx cy cz ct cs b 1024) ∧
  (∀ b, b < bc → kd b ≠ -1 ∧ (et b = -1 ∨ zb_IN (et b) bc) ∧ (eu b = -1 ∨ zb_IN (eu b) bc))
def zr_RR (L VC OB nc bc fr NC BC : Nat) (f_phase f_place : Int32) (ops fA fB fC ow kd en et eu ou rn co cx cy cz ct cs be cc kdY enY etY euY ouY va : Nat → Int32) : Prop :=
  zr_cst L VC OB nc bc fr NC BC ∧ zr_wf VC nc bc BC ops fA ow kd et eu ∧ zr_yb bc kd en et eu ou kdY enY etY euY ouY ∧ zr_bv L VC OB fr be cc va ∧
  (f_phase = 0 ∨ f_phase = 1 ∨ f_phase = 2) ∧ (f_phase ≠ 0 → zr_gd L OB VC nc bc ops fA fB fC ow kd en et eu ou co cx cy cz ct cs) ∧
  (f_phase = 1 → zb_IN f_place bc) ∧ (f_phase = 0 → ∀ b, b < 6 → rn b = 0)
/-- the relation at the head of a turn (k is not used) -/
def i_Rel (_k : Nat) (u : SX) (v : SY) : Prop := ∃ (L VC OB nc bc fr NC BC cl ol : Nat) (f_phase f_place f_last f_result f_fault f_mFill f_mStore f_mHalt f_mJump f_raw f_ids f_homes f_cellCount : Int32) (ops fA fB fC ow kd en et eu ou vl rn co cx cy cz ct cs be cc od us ce mo dn bu gr kdY enY etY euY ouY va : Nat → Int32), zr_RR L VC OB nc bc fr NC BC f_phase f_place ops fA fB fC ow kd en et eu ou rn co cx cy cz ct cs be cc kdY enY etY euY ouY va ∧ u = ((nI L), (nI NC), (nI BC), (nI VC), (nI OB), (nI nc), (nI bc), f_phase, f_place, f_last, f_result, f_fault, f_mFill, f_mStore, f_mHalt, f_mJump, (nI cl), (nI fr), f_raw, f_ids, f_homes, f_cellCount, (nI ol), ops, fA, fB, fC, ow, kd, en, et, eu, ou, vl, rn, co, cx, cy, cz, ct, cs, be, cc, od, us, ce, mo, dn, bu) ∧ v = ((nI L), (nI NC), (nI BC), (nI VC), f_phase, (nI nc), (nI bc), f_place, f_last, f_result, f_fault, ops, fA, fB, fC, ow, vl, gr, kdY, enY, etY, euY, rn, ouY, va)
theorem i_up {k : Nat} {u : SX} {v : SY} (h : i_Rel k u v) : i_Rel (k + 5) u v := h
section ZR
variable {L VC OB nc bc fr NC BC cl ol : Nat} {f_phase f_place f_last f_result f_fault f_mFill f_mStore f_mHalt f_mJump f_raw f_ids f_homes f_cellCount : Int32} {ops fA fB fC ow kd en et eu ou vl rn co cx cy cz ct cs be cc od us ce mo dn bu gr kdY enY etY euY ouY va : Nat → Int32}
theorem zr_in {k : Nat} (h : zr_RR L VC OB nc bc fr NC BC f_phase f_place ops fA fB fC ow kd en et eu ou rn co cx cy cz ct cs be cc kdY enY etY euY ouY va) : i_Rel k ((nI L), (nI NC), (nI BC), (nI VC), (nI OB), (nI nc), (nI bc), f_phase, f_place, f_last, f_result, f_fault, f_mFill, f_mStore, f_mHalt, f_mJump, (nI cl), (nI fr), f_raw, f_ids, f_homes, f_cellCount, (nI ol), ops, fA, fB, fC, ow, kd, en, et, eu, ou, vl, rn, co, cx, cy, cz, ct, cs, be, cc, od, us, ce, mo, dn, bu) ((nI L), (nI NC), (nI BC), (nI VC), f_phase, (nI nc), (nI bc), f_place, f_last, f_result, f_fault, ops, fA, fB, fC, ow, vl, gr, kdY, enY, etY, euY, rn, ouY, va) := ⟨L, VC, OB, nc, bc, fr, NC, BC, cl, ol, f_phase, f_place, f_last, f_result, f_fault, f_mFill, f_mStore, f_mHalt, f_mJump, f_raw, f_ids, f_homes, f_cellCount, ops, fA, fB, fC, ow, kd, en, et, eu, ou, vl, rn, co, cx, cy, cz, ct, cs, be, cc, od, us, ce, mo, dn, bu, gr, kdY, enY, etY, euY, ouY, va, h, rfl, rfl⟩
end ZR
theorem zr_el {P : SX → SY → Prop} (h : ∀ (L VC OB nc bc fr NC BC cl ol : Nat) (f_phase f_place f_last f_result f_fault f_mFill f_mStore f_mHalt f_mJump f_raw f_ids f_homes f_cellCount : Int32) (ops fA fB fC ow kd en et eu ou vl rn co cx cy cz ct cs be cc od us ce mo dn bu gr kdY enY etY euY ouY va : Nat → Int32), zr_RR L VC OB nc bc fr NC BC f_phase f_place ops fA fB fC ow kd en et eu ou rn co cx cy cz ct cs be cc kdY enY etY euY ouY va → P ((nI L), (nI NC), (nI BC), (nI VC), (nI OB), (nI nc), (nI bc), f_phase, f_place, f_last, f_result, f_fault, f_mFill, f_mStore, f_mHalt, f_mJump, (nI cl), (nI fr), f_raw, f_ids, f_homes, f_cellCount, (nI ol), ops, fA, fB, fC, ow, kd, en, et, eu, ou, vl, rn, co, cx, cy, cz, ct, cs, be, cc, od, us, ce, mo, dn, bu) ((nI L), (nI NC), (nI BC), (nI VC), f_phase, (nI nc), (nI bc), f_place, f_last, f_result, f_fault, ops, fA, fB, fC, ow, vl, gr, kdY, enY, etY, euY, rn, ouY, va)) {k : Nat} {u : SX} {v : SY} (I : i_Rel k u v) : P u v :=
  Exists.elim I fun L I => Exists.elim I fun VC I => Exists.elim I fun OB I => Exists.elim I fun nc I => Exists.elim I fun bc I => Exists.elim I fun fr I => Exists.elim I fun NC I => Exists.elim I fun BC I => Exists.elim I fun cl I => Exists.elim I fun ol I => Exists.elim I fun f_phase I => Exists.elim I fun f_place I => Exists.elim I fun f_last I => Exists.elim I fun f_result I => Exists.elim I fun f_fault I => Exists.elim I fun f_mFill I => Exists.elim I fun f_mStore I => Exists.elim I fun f_mHalt I => Exists.elim I fun f_mJump I => Exists.elim I fun f_raw I => Exists.elim I fun f_ids I => Exists.elim I fun f_homes I => Exists.elim I fun f_cellCount I => Exists.elim I fun ops I => Exists.elim I fun fA I => Exists.elim I fun fB I => Exists.elim I fun fC I => Exists.elim I fun ow I => Exists.elim I fun kd I => Exists.elim I fun en I => Exists.elim I fun et I => Exists.elim I fun eu I => Exists.elim I fun ou I => Exists.elim I fun vl I => Exists.elim I fun rn I => Exists.elim I fun co I => Exists.elim I fun cx I => Exists.elim I fun cy I => Exists.elim I fun cz I => Exists.elim I fun ct I => Exists.elim I fun cs I => Exists.elim I fun be I => Exists.elim I fun cc I => Exists.elim I fun od I => Exists.elim I fun us I => Exists.elim I fun ce I => Exists.elim I fun mo I => Exists.elim I fun dn I => Exists.elim I fun bu I => Exists.elim I fun gr I => Exists.elim I fun kdY I => Exists.elim I fun enY I => Exists.elim I fun etY I => Exists.elim I fun euY I => Exists.elim I fun ouY I => Exists.elim I fun va I => by
    rw [I.2.1, I.2.2]
    exact h _ _ _ _ _ _ _ _ _ _ _ _ _ _ _ _ _ _ _ _ _ _ _ _ _ _ _ _ _ _ _ _ _ _ _ _ _ _ _ _ _ _ _ _ _ _ _ _ _ _ _ _ _ _ _ _ I.1
section ZR
variable {L VC OB nc bc fr NC BC cl ol : Nat} {f_phase f_place f_last f_result f_fault f_mFill f_mStore f_mHalt f_mJump f_raw f_ids f_homes f_cellCount : Int32} {ops fA fB fC ow kd en et eu ou vl rn co cx cy cz ct cs be cc od us ce mo dn bu gr kdY enY etY euY ouY va : Nat → Int32}
theorem zx_isVar {post : Int32 → Prop} {x : Int32} (hV : VC ≤ 6) (h1 : zb_IN x VC → post 1) (h0 : ¬ zb_IN x VC → post 0) : wpX_isVar post ((nI L), (nI NC), (nI BC), (nI VC), (nI OB), (nI nc), (nI bc), f_phase, f_place, f_last, f_result, f_fault, f_mFill, f_mStore, f_mHalt, f_mJump, (nI cl), (nI fr), f_raw, f_ids, f_homes, f_cellCount, (nI ol), ops, fA, fB, fC, ow, kd, en, et, eu, ou, vl, rn, co, cx, cy, cz, ct, cs, be, cc, od, us, ce, mo, dn, bu) x := by
  refine br_c (fun c => h0 ?_) (fun c => br_c (fun c2 => h0 ?_) (fun c2 => h1 (bz_ex c c2 (by omega))))
  · rintro ⟨m, hm, rfl⟩
    exact nI_pos (by omega) c
  · rintro ⟨m, hm, rfl⟩
    exact nI_ge hm (by omega) c2
theorem zx_nameable {post : Int32 → Prop} {x : Int32} (hN : NC ≤ 32) (h1 : zb_IN x NC → post 1) (h0 : ¬ zb_IN x NC → post 0) : wpX_nameable post ((nI L), (nI NC), (nI BC), (nI VC), (nI OB), (nI nc), (nI bc), f_phase, f_place, f_last, f_result, f_fault, f_mFill, f_mStore, f_mHalt, f_mJump, (nI cl), (nI fr), f_raw, f_ids, f_homes, f_cellCount, (nI ol), ops, fA, fB, fC, ow, kd, en, et, eu, ou, vl, rn, co, cx, cy, cz, ct, cs, be, cc, od, us, ce, mo, dn, bu) x := by
  refine br_c (fun c => h0 ?_) (fun c => br_c (fun c2 => h0 ?_) (fun c2 => h1 (bz_ex c c2 (by omega))))
  · rintro ⟨m, hm, rfl⟩
    exact nI_pos (by omega) c
  · rintro ⟨m, hm, rfl⟩
    exact nI_ge hm (by omega) c2
theorem zr_slI {i j : Nat} (hf : fr < L) (hi : i < L) (hj : j < L) (h : zr_sl L fr i = zr_sl L fr j) : i = j := by
  unfold zr_sl at h
  by_cases c : fr + i < L
  · rw [if_pos c] at h
    by_cases d : fr + j < L
    · rw [if_pos d] at h; omega
    · rw [if_neg d] at h; omega
  · rw [if_neg c] at h
    by_cases d : fr + j < L
    · rw [if_pos d] at h; omega
    · rw [if_neg d] at h; omega
end ZR
end
section
/-! the looking methods -/
theorem i_vc_value {k : Nat} {u : SX} {v : SY} (I : i_Rel k u v) (hk : k + 5 ≤ 2564) (v1 : Int32) : wpX_value (fun r => wpY_value (fun r' => r' = r ∧ i_Rel (k + 5) u v) v v1) u v1 := by
  have I' : i_Rel (k + 5) u v := I
  revert I'
  refine zr_el (P := fun u v => i_Rel (k + 5) u v → wpX_value (fun r => wpY_value (fun r' => r' = r ∧ i_Rel (k + 5) u v) v v1) u v1) ?_ I
  intro L VC OB nc bc fr NC BC cl ol f_phase f_place f_last f_result f_fault f_mFill f_mStore f_mHalt f_mJump f_raw f_ids f_homes f_cellCount ops fA fB fC ow kd en et eu ou vl rn co cx cy cz ct cs be cc od us ce mo dn bu gr kdY enY etY euY ouY va R I'
  obtain ⟨⟨c1, c2, c3, c4, c5, c6, c7, c8, c9, c10, c11, c12, c13, c14⟩, ⟨w1, w2⟩, ⟨y1, y2, y3, y4⟩, ⟨v1', v2'⟩, p1, p2, p3, p4⟩ := R
  refine br_c (fun a => br_t a ⟨rfl, I'⟩) (fun a => br_c (fun b => br_f a (br_t b ⟨rfl, I'⟩)) (fun b => ?_))
  obtain ⟨n, hn, e⟩ := bz_ex a b (by omega)
  have hi : vp_in v1 32 := by rw [e]; exact vp_in_nI (by omega) (by decide)
  exact And.intro hi (br_f a (br_f b (And.intro hi ⟨rfl, I'⟩)))
theorem i_vc_variable {k : Nat} {u : SX} {v : SY} (I : i_Rel k u v) (hk : k + 5 ≤ 2564) (v1 : Int32) : wpX_variable (fun r => wpY_variable (fun r' => r' = r ∧ i_Rel (k + 5) u v) v v1) u v1 := by
  have I' : i_Rel (k + 5) u v := I
  revert I'
  refine zr_el (P := fun u v => i_Rel (k + 5) u v → wpX_variable (fun r => wpY_variable (fun r' => r' = r ∧ i_Rel (k + 5) u v) v v1) u v1) ?_ I
  intro L VC OB nc bc fr NC BC cl ol f_phase f_place f_last f_result f_fault f_mFill f_mStore f_mHalt f_mJump f_raw f_ids f_homes f_cellCount ops fA fB fC ow kd en et eu ou vl rn co cx cy cz ct cs be cc od us ce mo dn bu gr kdY enY etY euY ouY va R I'
  obtain ⟨⟨c1, c2, c3, c4, c5, c6, c7, c8, c9, c10, c11, c12, c13, c14⟩, ⟨w1, w2⟩, ⟨y1, y2, y3, y4⟩, ⟨v1', v2'⟩, p1, p2, p3, p4⟩ := R
  unfold wpX_variable
  dsimp only
  refine zx_isVar c4 ?_ ?_
  · rintro ⟨w, hw, rfl⟩
    have hi6 : vp_in (nI w) 6 := vp_in_nI (by omega) (by decide)
    have hcw : (nI w).toNatClampNeg = w := nI_clamp (by omega)
    refine br_f (by decide) (pk_le OB w (fun c => And.intro (vp_in_nI (by omega) (by decide)) ?_) (fun c => ?_))
    · refine br_f (nI_pos (by omega)) (br_f (nI_ge hw (by omega)) (And.intro hi6 ⟨?_, I'⟩))
      rw [hcw]
      exact (v2' w c hw).symm
    · refine zx_peek (D := fun i => be (zr_sl L fr i)) c2 ⟨c14, fun i _ => rfl⟩ (zb_INof (by omega)) ?_
      refine br_f (nI_pos (by omega)) (br_f (nI_ge hw (by omega)) (And.intro hi6 ⟨?_, I'⟩))
      rw [hcw]
      exact (v1' w c).symm
  · intro hn
    refine br_t rfl (br_c (fun a => ⟨rfl, I'⟩) (fun a => br_c (fun b => ⟨rfl, I'⟩) (fun b => absurd (bz_ex a b (by omega)) hn)))
theorem i_vc_info {k : Nat} {u : SX} {v : SY} (I : i_Rel k u v) (hk : k + 5 ≤ 2564) (v1 : Int32) : wpX_info (fun r => wpY_info (fun r' => r' = r ∧ i_Rel (k + 5) u v) v v1) u v1 := by
  have I' : i_Rel (k + 5) u v := I
  revert I'
  refine zr_el (P := fun u v => i_Rel (k + 5) u v → wpX_info (fun r => wpY_info (fun r' => r' = r ∧ i_Rel (k + 5) u v) v v1) u v1) ?_ I
  intro L VC OB nc bc fr NC BC cl ol f_phase f_place f_last f_result f_fault f_mFill f_mStore f_mHalt f_mJump f_raw f_ids f_homes f_cellCount ops fA fB fC ow kd en et eu ou vl rn co cx cy cz ct cs be cc od us ce mo dn bu gr kdY enY etY euY ouY va R I'
  obtain ⟨⟨c1, c2, c3, c4, c5, c6, c7, c8, c9, c10, c11, c12, c13, c14⟩, ⟨w1, w2⟩, ⟨y1, y2, y3, y4⟩, ⟨v1', v2'⟩, p1, p2, p3, p4⟩ := R
  by_cases e0 : v1 = 0
  · subst e0
    exact (br_f (by decide) (br_f (by decide) (br_t rfl (br_t rfl ⟨rfl, I'⟩))))
  by_cases e1 : v1 = 1
  · subst e1
    exact (br_f (by decide) (br_f (by decide) (br_f (by decide) (br_t rfl (br_f (by decide) (br_t rfl ⟨rfl, I'⟩))))))
  by_cases e2 : v1 = 2
  · subst e2
    exact (br_f (by decide) (br_f (by decide) (br_f (by decide) (br_f (by decide) (br_t rfl (br_f (by decide) (br_f (by decide) (br_t rfl ⟨rfl, I'⟩))))))))
  by_cases e3 : v1 = 3
  · subst e3
    exact (br_f (by decide) (br_f (by decide) (br_f (by decide) (br_f (by decide) (br_f (by decide) (br_t rfl (br_f (by decide) (br_f (by decide) (br_f (by decide) (br_t rfl ⟨rfl, I'⟩))))))))))
  by_cases e4 : v1 = 4
  · subst e4
    exact (br_f (by decide) (br_f (by decide) (br_f (by decide) (br_f (by decide) (br_f (by decide) (br_f (by decide) (br_t rfl (br_f (by decide) (br_f (by decide) (br_f (by decide) (br_f (by decide) (br_t rfl ⟨rfl, I'⟩))))))))))))
  by_cases e5 : v1 = 5
  · subst e5
    exact (br_f (by decide) (br_f (by decide) (br_f (by decide) (br_f (by decide) (br_f (by decide) (br_f (by decide) (br_f (by decide) (br_t rfl (br_f (by decide) (br_f (by decide) (br_f (by decide) (br_f (by decide) (br_f (by decide) (br_t rfl ⟨rfl, I'⟩))))))))))))))
  by_cases e6 : v1 = 6
  · subst e6
    exact (br_f (by decide) (br_f (by decide) (br_f (by decide) (br_f (by decide) (br_f (by decide) (br_f (by decide) (br_f (by decide) (br_f (by decide) (br_t rfl (br_f (by decide) (br_f (by decide) (br_f (by decide) (br_f (by decide) (br_f (by decide) (br_f (by decide) (br_t rfl ⟨rfl, I'⟩))))))))))))))))
  by_cases e7 : v1 = 7
  · subst e7
    exact (br_f (by decide) (br_f (by decide) (br_f (by decide) (br_f (by decide) (br_f (by decide) (br_f (by decide) (br_f (by decide) (br_f (by decide) (br_f (by decide) (br_t rfl (br_f (by decide) (br_f (by decide) (br_f (by decide) (br_f (by decide) (br_f (by decide) (br_f (by decide) (br_f (by decide) (br_t rfl ⟨rfl, I'⟩))))))))))))))))))
  by_cases e8 : v1 = 8
  · subst e8
    exact (br_f (by decide) (br_f (by decide) (br_f (by decide) (br_f (by decide) (br_f (by decide) (br_f (by decide) (br_f (by decide) (br_f (by decide) (br_f (by decide) (br_f (by decide) (br_t rfl (br_f (by decide) (br_f (by decide) (br_f (by decide) (br_f (by decide) (br_f (by decide) (br_f (by decide) (br_f (by decide) (br_f (by decide) (br_t rfl ⟨rfl, I'⟩))))))))))))))))))))
  by_cases e9 : v1 = 9
  · subst e9
    exact (br_f (by decide) (br_f (by decide) (br_f (by decide) (br_f (by decide) (br_f (by decide) (br_f (by decide) (br_f (by decide) (br_f (by decide) (br_f (by decide) (br_f (by decide) (br_f (by decide) (br_t rfl (br_f (by decide) (br_f (by decide) (br_f (by decide) (br_f (by decide) (br_f (by decide) (br_f (by decide) (br_f (by decide) (br_f (by decide) (br_f (by decide) (br_t rfl ⟨rfl, I'⟩))))))))))))))))))))))
  by_cases e10 : v1 = 10
  · subst e10
    exact (br_f (by decide) (br_f (by decide) (br_f (by decide) (br_f (by decide) (br_f (by decide) (br_f (by decide) (br_f (by decide) (br_f (by decide) (br_f (by decide) (br_f (by decide) (br_f (by decide) (br_f (by decide) (br_t rfl (br_f (by decide) (br_f (by decide) (br_f (by decide) (br_f (by decide) (br_f (by decide) (br_f (by decide) (br_f (by decide) (br_f (by decide) (br_f (by decide) (br_f (by decide) (br_t rfl ⟨rfl, I'⟩))))))))))))))))))))))))
  exact br_c (fun _ => (br_f e0 (br_f e1 (br_f e2 (br_f e3 (br_f e4 (br_f e5 (br_f e6 (br_f e7 (br_f e8 (br_f e9 (br_f e10 ⟨rfl, I'⟩)))))))))))) (fun _ => br_c (fun _ => (br_f e0 (br_f e1 (br_f e2 (br_f e3 (br_f e4 (br_f e5 (br_f e6 (br_f e7 (br_f e8 (br_f e9 (br_f e10 ⟨rfl, I'⟩)))))))))))) (fun _ => (br_f e0 (br_f e1 (br_f e2 (br_f e3 (br_f e4 (br_f e5 (br_f e6 (br_f e7 (br_f e8 (br_f e9 (br_f e10 True.intro)))))))))))))
theorem i_vc_nodeField {k : Nat} {u : SX} {v : SY} (I : i_Rel k u v) (hk : k + 5 ≤ 2564) (v1 : Int32) (v2 : Int32) : wpX_nodeField (fun r => wpY_nodeField (fun r' => r' = r ∧ i_Rel (k + 5) u v) v v1 v2) u v1 v2 := by
  have I' : i_Rel (k + 5) u v := I
  revert I'
  refine zr_el (P := fun u v => i_Rel (k + 5) u v → wpX_nodeField (fun r => wpY_nodeField (fun r' => r' = r ∧ i_Rel (k + 5) u v) v v1 v2) u v1 v2) ?_ I
  intro L VC OB nc bc fr NC BC cl ol f_phase f_place f_last f_result f_fault f_mFill f_mStore f_mHalt f_mJump f_raw f_ids f_homes f_cellCount ops fA fB fC ow kd en et eu ou vl rn co cx cy cz ct cs be cc od us ce mo dn bu gr kdY enY etY euY ouY va R I'
  obtain ⟨⟨c1, c2, c3, c4, c5, c6, c7, c8, c9, c10, c11, c12, c13, c14⟩, ⟨w1, w2⟩, ⟨y1, y2, y3, y4⟩, ⟨v1', v2'⟩, p1, p2, p3, p4⟩ := R
  refine br_c (fun a => br_t a ⟨rfl, I'⟩) (fun a => br_c (fun b => ?_) (fun b => br_f a (br_f b ⟨rfl, I'⟩)))
  obtain ⟨n, hn, e⟩ := bz_ex2 a b (by omega)
  have hi : vp_in v1 32 := by rw [e]; exact vp_in_nI (by omega) (by decide)
  by_cases e0 : v2 = 0
  · subst e0
    exact (br_f (by decide) (br_f (by decide) (br_t rfl (And.intro hi (br_f a (br_t b (br_t rfl (And.intro hi ⟨rfl, I'⟩))))))))
  by_cases e1 : v2 = 1
  · subst e1
    exact (br_f (by decide) (br_f (by decide) (br_f (by decide) (br_t rfl (And.intro hi (br_f a (br_t b (br_f (by decide) (br_t rfl (And.intro hi ⟨rfl, I'⟩))))))))))
  by_cases e2 : v2 = 2
  · subst e2
    exact (br_f (by decide) (br_f (by decide) (br_f (by decide) (br_f (by decide) (br_t rfl (And.intro hi (br_f a (br_t b (br_f (by decide) (br_f (by decide) (br_t rfl (And.intro hi ⟨rfl, I'⟩))))))))))))
  by_cases e3 : v2 = 3
  · subst e3
    exact (br_f (by decide) (br_f (by decide) (br_f (by decide) (br_f (by decide) (br_f (by decide) (br_t rfl (And.intro hi (br_f a (br_t b (br_f (by decide) (br_f (by decide) (br_f (by decide) (br_t rfl (And.intro hi ⟨rfl, I'⟩))))))))))))))
  by_cases e4 : v2 = 4
  · subst e4
    exact (br_f (by decide) (br_f (by decide) (br_f (by decide) (br_f (by decide) (br_f (by decide) (br_f (by decide) (br_t rfl (And.intro hi (br_f a (br_t b (br_f (by decide) (br_f (by decide) (br_f (by decide) (br_f (by decide) (br_t rfl (And.intro hi ⟨rfl, I'⟩))))))))))))))))
  exact br_c (fun _ => (br_f a (br_t b (br_f e0 (br_f e1 (br_f e2 (br_f e3 (br_f e4 ⟨rfl, I'⟩)))))))) (fun _ => br_c (fun _ => (br_f a (br_t b (br_f e0 (br_f e1 (br_f e2 (br_f e3 (br_f e4 ⟨rfl, I'⟩)))))))) (fun _ => (br_f e0 (br_f e1 (br_f e2 (br_f e3 (br_f e4 True.intro)))))))
theorem i_vc_blockField {k : Nat} {u : SX} {v : SY} (I : i_Rel k u v) (hk : k + 5 ≤ 2564) (v1 : Int32) (v2 : Int32) : wpX_blockField (fun r => wpY_blockField (fun r' => r' = r ∧ i_Rel (k + 5) u v) v v1 v2) u v1 v2 := by
  have I' : i_Rel (k + 5) u v := I
  revert I'
  refine zr_el (P := fun u v => i_Rel (k + 5) u v → wpX_blockField (fun r => wpY_blockField (fun r' => r' = r ∧ i_Rel (k + 5) u v) v v1 v2) u v1 v2) ?_ I
  intro L VC OB nc bc fr NC BC cl ol f_phase f_place f_last f_result f_fault f_mFill f_mStore f_mHalt f_mJump f_raw f_ids f_homes f_cellCount ops fA fB fC ow kd en et eu ou vl rn co cx cy cz ct cs be cc od us ce mo dn bu gr kdY enY etY euY ouY va R I'
  obtain ⟨⟨c1, c2, c3, c4, c5, c6, c7, c8, c9, c10, c11, c12, c13, c14⟩, ⟨w1, w2⟩, ⟨y1, y2, y3, y4⟩, ⟨v1', v2'⟩, p1, p2, p3, p4⟩ := R
  refine br_c (fun a => br_t a ⟨rfl, I'⟩) (fun a => br_c (fun b => ?_) (fun b => br_f a (br_t (Int32.not_lt.mp b) ⟨rfl, I'⟩)))
  obtain ⟨n, hn, rfl⟩ := bz_ex2 a b (by omega)
  have hi : vp_in (nI n) 6 := vp_in_nI (by omega) (by decide)
  have hcn : (nI n).toNatClampNeg = n := nI_clamp (by omega)
  have nb : ¬ nI bc ≤ nI n := Int32.not_le.mpr b
  obtain ⟨z1, z2, z3, z4⟩ := y1 n hn
  by_cases e0 : v2 = 0
  · subst e0
    exact (br_t (by decide) (br_f (by decide) (br_f (by decide) (br_t rfl (And.intro hi (br_f a (br_f nb (br_f (by decide) (br_t (show (0 : Int32) < 5 + nI VC by rw [bz_5]; exact nI_lt (a := 0) (by omega) (by omega)) (br_t rfl (And.intro hi ⟨(by rw [hcn]; exact z1), I'⟩)))))))))))
  by_cases e1 : v2 = 1
  · subst e1
    exact (br_t (by decide) (br_f (by decide) (br_f (by decide) (br_f (by decide) (br_t rfl (And.intro hi (br_f a (br_f nb (br_f (by decide) (br_t (show (1 : Int32) < 5 + nI VC by rw [bz_5]; exact nI_lt (a := 1) (by omega) (by omega)) (br_f (by decide) (br_t rfl (And.intro hi ⟨(by rw [hcn]; exact z2), I'⟩)))))))))))))
  by_cases e2 : v2 = 2
  · subst e2
    exact (br_t (by decide) (br_f (by decide) (br_f (by decide) (br_f (by decide) (br_f (by decide) (br_t rfl (And.intro hi (br_f a (br_f nb (br_f (by decide) (br_t (show (2 : Int32) < 5 + nI VC by rw [bz_5]; exact nI_lt (a := 2) (by omega) (by omega)) (br_f (by decide) (br_f (by decide) (br_t rfl (And.intro hi ⟨(by rw [hcn]; exact z3), I'⟩)))))))))))))))
  by_cases e3 : v2 = 3
  · subst e3
    exact (br_t (by decide) (br_f (by decide) (br_f (by decide) (br_f (by decide) (br_f (by decide) (br_f (by decide) (br_t rfl (And.intro hi (br_f a (br_f nb (br_f (by decide) (br_t (show (3 : Int32) < 5 + nI VC by rw [bz_5]; exact nI_lt (a := 3) (by omega) (by omega)) (br_f (by decide) (br_f (by decide) (br_f (by decide) (br_t rfl (And.intro hi ⟨(by rw [hcn]; exact z4), I'⟩)))))))))))))))))
  by_cases e4 : v2 = 4
  · subst e4
    exact (br_t (by decide) (br_f (by decide) (br_f (by decide) (br_f (by decide) (br_f (by decide) (br_f (by decide) (br_f (by decide) (br_t rfl (And.intro hi (br_f a (br_f nb (br_f (by decide) (br_t (show (4 : Int32) < 5 + nI VC by rw [bz_5]; exact nI_lt (a := 4) (by omega) (by omega)) (br_f (by decide) (br_f (by decide) (br_f (by decide) (br_f (by decide) (br_t rfl (And.intro hi ⟨rfl, I'⟩)))))))))))))))))))
  by_cases g0 : v2 < 0
  · have g5 : v2 < 5 := Int32.lt_trans g0 (by decide)
    exact br_t g5 (br_t g0 (br_f a (br_f nb (br_t g0 ⟨rfl, I'⟩))))
  obtain ⟨w, hw, rfl⟩ := nI_of g0
  have h5 : 5 ≤ w := by
    rcases (by omega : w = 0 ∨ w = 1 ∨ w = 2 ∨ w = 3 ∨ w = 4 ∨ 5 ≤ w) with h | h | h | h | h | h
    · exact absurd (by rw [h]; rfl) e0
    · exact absurd (by rw [h]; rfl) e1
    · exact absurd (by rw [h]; rfl) e2
    · exact absurd (by rw [h]; rfl) e3
    · exact absurd (by rw [h]; rfl) e4
    · exact h
  have g5 : ¬ nI w < 5 := nI_nlt (b := 5) h5 hw
  have e5 : (5 : Int32) + nI VC = nI (5 + VC) := bz_5 VC
  refine br_f g5 ?_
  refine pk_le (5 + VC) w (fun c => ?_) (fun c => ?_) e5 rfl (by omega) hw
  · refine br_f g0 (br_t (nI_lt (a := 4) (by omega) hw) (br_f a (br_f nb (br_f g0 (br_f ?_ ⟨rfl, I'⟩)))))
    rw [e5]
    exact nI_nlt c hw
  · have ei : nI n * 6 + nI w - 5 = nI (n * 6 + w - 5) := by
      rw [bz_6]
      exact pk_sub (b := 5) (by omega)
    have hin : vp_in (nI n * 6 + nI w - 5) 36 := by
      rw [ei]
      exact vp_in_nI (by omega) (by decide)
    refine And.intro hin (br_f a (br_f nb (br_f g0 (br_t ?_ (br_f e0 (br_f e1 (br_f e2 (br_f e3 (br_f e4 (And.intro hin ⟨?_, I'⟩))))))))))
    · rw [e5]
      exact nI_lt c (by omega)
    · rw [ei, nI_clamp (by omega)]
      exact y3 _ (by omega)
end
section
/-! the building methods -/
section ZB
variable {L VC OB nc bc fr NC BC cl ol : Nat} {f_phase f_place f_last f_result f_fault f_mFill f_mStore f_mHalt f_mJump f_raw f_ids f_homes f_cellCount : Int32} {ops fA fB fC ow kd en et eu ou vl rn co cx cy cz ct cs be cc od us ce mo dn bu gr kdY enY etY euY ouY va : Nat → Int32}
theorem zx_blk49 {post : Int32 → SX → Prop} (hb : bc < 6) (h : ∀ ou1, (∀ i, ou1 i = if bc * 6 ≤ i ∧ i < bc * 6 + 6 then -1 else ou i) → post (nI bc) ((nI L), (nI NC), (nI BC), (nI VC), (nI OB), (nI nc), (nI (bc + 1)), f_phase, f_place, f_last, f_result, f_fault, f_mFill, f_mStore, f_mHalt, f_mJump, (nI cl), (nI fr), f_raw, f_ids, f_homes, f_cellCount, (nI ol), ops, fA, fB, fC, ow, (upd kd bc (-1)), (upd en bc (-1)), (upd et bc (-1)), (upd eu bc (-1)), ou1, vl, (upd rn bc 0), co, cx, cy, cz, ct, cs, be, cc, od, us, ce, mo, dn, bu)) : wX_block_49 post (nI L) (nI NC) (nI BC) (nI VC) (nI OB) (nI nc) (nI bc) f_phase f_place f_last f_result f_fault f_mFill f_mStore f_mHalt f_mJump (nI cl) (nI fr) f_raw f_ids f_homes f_cellCount (nI ol) ops fA fB fC ow kd en et eu ou vl rn co cx cy cz ct cs be cc od us ce mo dn bu := by
  have hi : vp_in (nI bc) 6 := vp_in_nI hb (by decide)
  have key : ∀ d v, v + d = 6 → ∀ ou1, (∀ i, ou1 i = if bc * 6 ≤ i ∧ i < bc * 6 + v then -1 else ou i) → wX_block_98 post (nI bc) (nI L) (nI NC) (nI BC) (nI VC) (nI OB) (nI nc) (nI (bc + 1)) f_phase f_place f_last f_result f_fault f_mFill f_mStore f_mHalt f_mJump (nI cl) (nI fr) f_raw f_ids f_homes f_cellCount (nI ol) (d + 1) (nI v) ops fA fB fC ow (upd kd bc (-1)) (upd en bc (-1)) (upd et bc (-1)) (upd eu bc (-1)) ou1 vl (upd rn bc 0) co cx cy cz ct cs be cc od us ce mo dn bu := by
    intro d
    induction d with
    | zero =>
      intro v hv ou1 ho
      obtain rfl : v = 6 := by omega
      exact br_t (nI_le (a := 6) (b := 6) (by omega) (by decide)) (h ou1 ho)
    | succ d ih =>
      intro v hv ou1 ho
      refine br_f (nI_ge (b := 6) (by omega) (by decide)) ?_
      rw [bz_6, nI_clamp (show bc * 6 + v < 2 ^ 31 by omega)]
      refine And.intro (vp_in_nI (by omega) (by decide)) (nm_e (nm_r (nI_1 v) (ih (v + 1) (by omega) _ (fun i => ?_))))
      by_cases e : i = bc * 6 + v
      · rw [e, pk_us, if_pos (by omega)]
      · rw [pk_un e, ho i]
        by_cases c : bc * 6 ≤ i ∧ i < bc * 6 + v
        · rw [if_pos c, if_pos (by omega)]
        · rw [if_neg c, if_neg (by omega)]
  unfold wX_block_49
  rw [nI_clamp (show bc < 2 ^ 31 by omega)]
  refine nm_r (nI_1 bc) (And.intro hi (nm_e (And.intro hi (nm_e (And.intro hi (nm_e (And.intro hi (nm_e (And.intro hi (nm_e ⟨_, key 6 0 (by omega) ou (fun i => ?_)⟩))))))))))
  rw [if_neg (by omega)]
theorem zr_Rblock {ou1 : Nat → Int32} (R : zr_RR L VC OB nc bc fr NC BC f_phase f_place ops fA fB fC ow kd en et eu ou rn co cx cy cz ct cs be cc kdY enY etY euY ouY va) (p0 : f_phase = 0) (hb : bc < BC) (hl : 0 < bc → kd (bc - 1) ≠ -1) (ho : ∀ i, ou1 i = if bc * 6 ≤ i ∧ i < bc * 6 + 6 then -1 else ou i) : zr_RR L VC OB nc (bc + 1) fr NC BC f_phase f_place ops fA fB fC ow (upd kd bc (-1)) (upd en bc (-1)) (upd et bc (-1)) (upd eu bc (-1)) ou1 rn co cx cy cz ct cs be cc kdY enY etY euY ouY va := by
  obtain ⟨⟨c1, c2, c3, c4, c5, c6, c7, c8, c9, c10, c11, c12, c13, c14⟩, ⟨w1, w2⟩, ⟨y1, y2, y3, y4⟩, v1', p1, p2, p3, p4⟩ := R
  refine ⟨⟨c1, c2, c3, c4, c5, c6, c7, c8, c9, c10, c11, c12, by omega, c14⟩, ⟨fun n hn => ?_, fun b hb' => ?_⟩, ⟨fun b hb' => ?_, fun b h1 h2 => y2 b (by omega) h2, fun i hi => ?_, fun i h1 h2 => y4 i (by omega) h2⟩, v1', p1, fun z => absurd p0 z, fun z => absurd (p0.symm.trans z) (by decide), p4⟩
  · obtain ⟨z1, z2, m, hm, e⟩ := w1 n hn
    exact ⟨z1, z2, m, by omega, e⟩
  · by_cases e : b = bc
    · left
      rw [e, pk_us, pk_us, pk_us]
      exact ⟨rfl, rfl, rfl, rfl⟩
    · unfold zr_KB
      rw [pk_un e, pk_un e, pk_un e]
      rcases w2 b (by omega) with ⟨z1, z2, _⟩ | z
      · have hbb : b = bc - 1 := by omega
        rw [hbb] at z1
        exact absurd z1 (hl (by omega))
      · exact Or.inr z
  · by_cases e : b = bc
    · rw [e, pk_us, pk_us, pk_us, pk_us]
      exact y2 bc (by omega) (by omega)
    · rw [pk_un e, pk_un e, pk_un e, pk_un e]
      exact y1 b (by omega)
  · rw [ho i]
    by_cases c : bc * 6 ≤ i ∧ i < bc * 6 + 6
    · rw [if_pos c]
      exact y4 i c.1 (by omega)
    · rw [if_neg c]
      exact y3 i (by omega)
end ZB
theorem i_vc_block {k : Nat} {u : SX} {v : SY} (I : i_Rel k u v) (hk : k + 5 ≤ 2564) : wpX_block (fun r u' => wpY_block (fun r' v' => r' = r ∧ i_Rel (k + 5) u' v') v) u := by
  refine zr_el (P := fun u v => wpX_block (fun r u' => wpY_block (fun r' v' => r' = r ∧ i_Rel (k + 5) u' v') v) u) ?_ I
  intro L VC OB nc bc fr NC BC cl ol f_phase f_place f_last f_result f_fault f_mFill f_mStore f_mHalt f_mJump f_raw f_ids f_homes f_cellCount ops fA fB fC ow kd en et eu ou vl rn co cx cy cz ct cs be cc od us ce mo dn bu gr kdY enY etY euY ouY va R
  have same : i_Rel (k + 5) ((nI L), (nI NC), (nI BC), (nI VC), (nI OB), (nI nc), (nI bc), f_phase, f_place, f_last, f_result, f_fault, f_mFill, f_mStore, f_mHalt, f_mJump, (nI cl), (nI fr), f_raw, f_ids, f_homes, f_cellCount, (nI ol), ops, fA, fB, fC, ow, kd, en, et, eu, ou, vl, rn, co, cx, cy, cz, ct, cs, be, cc, od, us, ce, mo, dn, bu) ((nI L), (nI NC), (nI BC), (nI VC), f_phase, (nI nc), (nI bc), f_place, f_last, f_result, f_fault, ops, fA, fB, fC, ow, vl, gr, kdY, enY, etY, euY, rn, ouY, va) := zr_in R
  have R' := R
  obtain ⟨⟨c1, c2, c3, c4, c5, c6, c7, c8, c9, c10, c11, c12, c13, c14⟩, ⟨w1, w2⟩, ⟨y1, y2, y3, y4⟩, ⟨v1', v2'⟩, p1, p2, p3, p4⟩ := R'
  refine br_c (fun p0 => ?_) (fun p0 => br_f p0 ⟨rfl, same⟩)
  refine br_c (fun b0 => br_t p0 (br_t b0 ⟨rfl, same⟩)) (fun b0 => ?_)
  have hlt : bc < BC := by
    by_cases e : bc = BC
    · rw [e] at b0; exact absurd rfl b0
    · omega
  have fin : (0 < bc → kd (bc - 1) ≠ -1) → ∀ ou1, (∀ i, ou1 i = if bc * 6 ≤ i ∧ i < bc * 6 + 6 then -1 else ou i) → wY_block_49 (fun r' v' => r' = nI bc ∧ i_Rel (k + 5) ((nI L), (nI NC), (nI BC), (nI VC), (nI OB), (nI nc), (nI (bc + 1)), f_phase, f_place, f_last, f_result, f_fault, f_mFill, f_mStore, f_mHalt, f_mJump, (nI cl), (nI fr), f_raw, f_ids, f_homes, f_cellCount, (nI ol), ops, fA, fB, fC, ow, (upd kd bc (-1)), (upd en bc (-1)), (upd et bc (-1)), (upd eu bc (-1)), ou1, vl, (upd rn bc 0), co, cx, cy, cz, ct, cs, be, cc, od, us, ce, mo, dn, bu) v') (nI L) (nI NC) (nI BC) (nI VC) f_phase (nI nc) (nI bc) f_place f_last f_result f_fault ops fA fB fC ow vl gr kdY enY etY euY rn ouY va := by
    intro hl ou1 ho
    have er : upd rn bc 0 = rn := by
      funext j
      by_cases e : j = bc
      · rw [e, pk_us, p4 p0 bc (by omega)]
      · rw [pk_un e]
    rw [er]
    refine nm_r (nI_1 bc) ⟨nI_pred bc, ?_⟩
    exact zr_in (zr_Rblock R p0 hlt hl ho)
  refine pk_le bc 0 (fun z => zx_blk49 (by omega) (fun ou1 ho => br_t p0 (br_f b0 (br_t ?_ (fin (fun y => absurd y (by omega)) ou1 ho))))) (fun z => ?_)
  · rw [show bc = 0 by omega]
    exact Int32.le_refl 0
  · have hnl : ¬ nI bc ≤ 0 := nI_nle (by omega) (by omega)
    have e1 : nI bc - 1 = nI (bc - 1) := bz_sub1 (by omega)
    have hi : vp_in (nI (bc - 1)) 6 := vp_in_nI (by omega) (by decide)
    have hcl : (nI (bc - 1)).toNatClampNeg = bc - 1 := nI_clamp (by omega)
    have hy := (y1 (bc - 1) (by omega)).1
    rw [e1, hcl]
    refine And.intro hi (br_c (fun e => ?_) (fun e => zx_blk49 (by omega) (fun ou1 ho => ?_)))
    · refine br_t p0 (br_f b0 (br_f hnl ?_))
      rw [e1, hcl, hy]
      exact And.intro hi (br_t e ⟨rfl, same⟩)
    · refine br_t p0 (br_f b0 (br_f hnl ?_))
      rw [e1, hcl, hy]
      exact And.intro hi (br_f e (fin (fun _ => e) ou1 ho))
theorem i_vc_out {k : Nat} {u : SX} {v : SY} (I : i_Rel k u v) (hk : k + 5 ≤ 2564) (v1 : Int32) (v2 : Int32) (v3 : Int32) : wpX_out (fun r u' => wpY_out (fun r' v' => r' = r ∧ i_Rel (k + 5) u' v') v v1 v2 v3) u v1 v2 v3 := by
  refine zr_el (P := fun u v => wpX_out (fun r u' => wpY_out (fun r' v' => r' = r ∧ i_Rel (k + 5) u' v') v v1 v2 v3) u v1 v2 v3) ?_ I
  intro L VC OB nc bc fr NC BC cl ol f_phase f_place f_last f_result f_fault f_mFill f_mStore f_mHalt f_mJump f_raw f_ids f_homes f_cellCount ops fA fB fC ow kd en et eu ou vl rn co cx cy cz ct cs be cc od us ce mo dn bu gr kdY enY etY euY ouY va R
  have same : i_Rel (k + 5) ((nI L), (nI NC), (nI BC), (nI VC), (nI OB), (nI nc), (nI bc), f_phase, f_place, f_last, f_result, f_fault, f_mFill, f_mStore, f_mHalt, f_mJump, (nI cl), (nI fr), f_raw, f_ids, f_homes, f_cellCount, (nI ol), ops, fA, fB, fC, ow, kd, en, et, eu, ou, vl, rn, co, cx, cy, cz, ct, cs, be, cc, od, us, ce, mo, dn, bu) ((nI L), (nI NC), (nI BC), (nI VC), f_phase, (nI nc), (nI bc), f_place, f_last, f_result, f_fault, ops, fA, fB, fC, ow, vl, gr, kdY, enY, etY, euY, rn, ouY, va) := zr_in R
  have R' := R
  obtain ⟨⟨c1, c2, c3, c4, c5, c6, c7, c8, c9, c10, c11, c12, c13, c14⟩, ⟨w1, w2⟩, ⟨y1, y2, y3, y4⟩, ⟨v1', v2'⟩, p1, p2, p3, p4⟩ := R'
  refine br_c (fun p0 => ?_) (fun p0 => br_f p0 ⟨rfl, same⟩)
  refine br_c (fun a => br_t p0 (br_t a ⟨rfl, same⟩)) (fun a => br_c (fun b => ?_) (fun b => br_t p0 (br_f a (br_f b ⟨rfl, same⟩))))
  obtain ⟨b', hb, rfl⟩ := bz_ex2 a b (by omega)
  refine zx_isVar c4 ?_ ?_
  · rintro ⟨w, hw, rfl⟩
    have hv0 : ¬ nI w < 0 := nI_pos (by omega)
    have hvl : nI w < nI VC := nI_lt hw (by omega)
    have hi : vp_in (nI (b' * 6 + w)) 36 := vp_in_nI (by omega) (by decide)
    have X52 : ∀ post : Int32 → SX → Prop, post 0 ((nI L), (nI NC), (nI BC), (nI VC), (nI OB), (nI nc), (nI bc), f_phase, f_place, f_last, f_result, f_fault, f_mFill, f_mStore, f_mHalt, f_mJump, (nI cl), (nI fr), f_raw, f_ids, f_homes, f_cellCount, (nI ol), ops, fA, fB, fC, ow, kd, en, et, eu, (upd ou (b' * 6 + w) v3), vl, rn, co, cx, cy, cz, ct, cs, be, cc, od, us, ce, mo, dn, bu) → wX_out_52 post (nI b') (nI w) v3 (nI L) (nI NC) (nI BC) (nI VC) (nI OB) (nI nc) (nI bc) f_phase f_place f_last f_result f_fault f_mFill f_mStore f_mHalt f_mJump (nI cl) (nI fr) f_raw f_ids f_homes f_cellCount (nI ol) ops fA fB fC ow kd en et eu ou vl rn co cx cy cz ct cs be cc od us ce mo dn bu := by
      intro post h
      unfold wX_out_52
      rw [bz_6, nI_clamp (show b' * 6 + w < 2 ^ 31 by omega)]
      exact And.intro hi (nm_e h)
    have Y60 : ∀ post : Int32 → SY → Prop, post 0 ((nI L), (nI NC), (nI BC), (nI VC), f_phase, (nI nc), (nI bc), f_place, f_last, f_result, f_fault, ops, fA, fB, fC, ow, vl, gr, kdY, enY, etY, euY, rn, (upd ouY (b' * 6 + w) v3), va) → wY_out_60 post (nI b') (nI w) v3 (nI L) (nI NC) (nI BC) (nI VC) f_phase (nI nc) (nI bc) f_place f_last f_result f_fault ops fA fB fC ow vl gr kdY enY etY euY rn ouY va := by
      intro post h
      unfold wY_out_60
      rw [bz_6, nI_clamp (show b' * 6 + w < 2 ^ 31 by omega)]
      exact And.intro hi (nm_e h)
    have new : i_Rel (k + 5) ((nI L), (nI NC), (nI BC), (nI VC), (nI OB), (nI nc), (nI bc), f_phase, f_place, f_last, f_result, f_fault, f_mFill, f_mStore, f_mHalt, f_mJump, (nI cl), (nI fr), f_raw, f_ids, f_homes, f_cellCount, (nI ol), ops, fA, fB, fC, ow, kd, en, et, eu, (upd ou (b' * 6 + w) v3), vl, rn, co, cx, cy, cz, ct, cs, be, cc, od, us, ce, mo, dn, bu) ((nI L), (nI NC), (nI BC), (nI VC), f_phase, (nI nc), (nI bc), f_place, f_last, f_result, f_fault, ops, fA, fB, fC, ow, vl, gr, kdY, enY, etY, euY, rn, (upd ouY (b' * 6 + w) v3), va) := by
      refine zr_in ⟨R.1, R.2.1, ⟨y1, y2, fun i hi => ?_, fun i h1 h2 => ?_⟩, R.2.2.2.1, p1, fun z => absurd p0 z, p3, p4⟩
      · by_cases e : i = b' * 6 + w
        · rw [e, pk_us, pk_us]
        · rw [pk_un e, pk_un e]; exact y3 i hi
      · rw [pk_un (by omega)]; exact y4 i h1 h2
    refine br_f (by decide) (br_c (fun e => X52 _ (br_t p0 (br_f a (br_t b (br_f hv0 (br_t hvl (br_t e (Y60 _ ⟨rfl, new⟩)))))))) (fun e => zx_nameable c9 (fun z => br_f (by decide) (X52 _ (br_t p0 (br_f a (br_t b (br_f hv0 (br_t hvl (br_f e (zy_within rfl (by omega) (fun _ => br_f (by decide) (Y60 _ ⟨rfl, new⟩)) (fun y => absurd z y)))))))))) (fun z => br_t rfl (br_t p0 (br_f a (br_t b (br_f hv0 (br_t hvl (br_f e (zy_within rfl (by omega) (fun y => absurd y z) (fun _ => br_t rfl ⟨rfl, same⟩)))))))))))
  · intro hn
    refine br_t rfl (br_t p0 (br_f a (br_t b (br_c (fun z => ⟨rfl, same⟩) (fun z => br_c (fun y => absurd (bz_ex2 z y (by omega)) hn) (fun y => ⟨rfl, same⟩))))))
theorem i_vc_operand {k : Nat} {u : SX} {v : SY} (I : i_Rel k u v) (hk : k + 5 ≤ 2564) (v1 : Int32) (v2 : Int32) (v3 : Int32) : wpX_operand (fun r u' => wpY_operand (fun r' v' => r' = r ∧ i_Rel (k + 5) u' v') v v1 v2 v3) u v1 v2 v3 := by
  refine zr_el (P := fun u v => wpX_operand (fun r u' => wpY_operand (fun r' v' => r' = r ∧ i_Rel (k + 5) u' v') v v1 v2 v3) u v1 v2 v3) ?_ I
  intro L VC OB nc bc fr NC BC cl ol f_phase f_place f_last f_result f_fault f_mFill f_mStore f_mHalt f_mJump f_raw f_ids f_homes f_cellCount ops fA fB fC ow kd en et eu ou vl rn co cx cy cz ct cs be cc od us ce mo dn bu gr kdY enY etY euY ouY va R
  have same : i_Rel (k + 5) ((nI L), (nI NC), (nI BC), (nI VC), (nI OB), (nI nc), (nI bc), f_phase, f_place, f_last, f_result, f_fault, f_mFill, f_mStore, f_mHalt, f_mJump, (nI cl), (nI fr), f_raw, f_ids, f_homes, f_cellCount, (nI ol), ops, fA, fB, fC, ow, kd, en, et, eu, ou, vl, rn, co, cx, cy, cz, ct, cs, be, cc, od, us, ce, mo, dn, bu) ((nI L), (nI NC), (nI BC), (nI VC), f_phase, (nI nc), (nI bc), f_place, f_last, f_result, f_fault, ops, fA, fB, fC, ow, vl, gr, kdY, enY, etY, euY, rn, ouY, va) := zr_in R
  have R' := R
  obtain ⟨⟨c1, c2, c3, c4, c5, c6, c7, c8, c9, c10, c11, c12, c13, c14⟩, ⟨w1, w2⟩, ⟨y1, y2, y3, y4⟩, ⟨v1', v2'⟩, p1, p2, p3, p4⟩ := R'
  refine br_c (fun p0 => ?_) (fun p0 => br_f p0 ⟨rfl, same⟩)
  refine br_c (fun a => br_t p0 (br_t a ⟨rfl, same⟩)) (fun a => br_c (fun b => ?_) (fun b => br_t p0 (br_f a (br_f b ⟨rfl, same⟩))))
  obtain ⟨n, hn, rfl⟩ := bz_ex2 a b (by omega)
  have hi : vp_in (nI n) 32 := vp_in_nI (by omega) (by decide)
  have hcn : (nI n).toNatClampNeg = n := nI_clamp (by omega)
  refine br_c (fun c => br_t p0 (br_f a (br_t b (br_t c ⟨rfl, same⟩)))) (fun c => And.intro hi (zx_fu ?_))
  rw [hcn]
  refine br_c (fun d => ?_) (fun d => ?_)
  · have fin : (ops n = 1 → zb_IN v3 VC) → (∀ postY : Int32 → SY → Prop, wY_operand_96 postY (nI n) v2 v3 (nI L) (nI NC) (nI BC) (nI VC) f_phase (nI nc) (nI bc) f_place f_last f_result f_fault ops fA fB fC ow vl gr kdY enY etY euY rn ouY va → wpY_operand postY ((nI L), (nI NC), (nI BC), (nI VC), f_phase, (nI nc), (nI bc), f_place, f_last, f_result, f_fault, ops, fA, fB, fC, ow, vl, gr, kdY, enY, etY, euY, rn, ouY, va) (nI n) v2 v3) → wX_operand_88 (fun r u' => wpY_operand (fun r' v' => r' = r ∧ i_Rel (k + 5) u' v') ((nI L), (nI NC), (nI BC), (nI VC), f_phase, (nI nc), (nI bc), f_place, f_last, f_result, f_fault, ops, fA, fB, fC, ow, vl, gr, kdY, enY, etY, euY, rn, ouY, va) (nI n) v2 v3) (nI n) v2 v3 (nI L) (nI NC) (nI BC) (nI VC) (nI OB) (nI nc) (nI bc) f_phase f_place f_last f_result f_fault f_mFill f_mStore f_mHalt f_mJump (nI cl) (nI fr) f_raw f_ids f_homes f_cellCount (nI ol) ops fA fB fC ow kd en et eu ou vl rn co cx cy cz ct cs be cc od us ce mo dn bu := by
      intro hv toY
      unfold wX_operand_88
      rw [hcn]
      refine br_c (fun e => And.intro hi (nm_e (toY _ ?_))) (fun e => br_c (fun e2 => And.intro hi (nm_e (toY _ ?_))) (fun e2 => And.intro hi (nm_e (toY _ ?_))))
      · unfold wY_operand_96
        rw [hcn]
        refine br_t e (And.intro hi (nm_e ⟨rfl, zr_in ⟨R.1, ⟨fun m hm => ?_, w2⟩, R.2.2.1, R.2.2.2.1, p1, fun z => absurd p0 z, p3, p4⟩⟩))
        obtain ⟨z1, z2, z3⟩ := w1 m hm
        refine ⟨z1, fun y => ?_, z3⟩
        by_cases g : m = n
        · rw [g, pk_us]; rw [g] at y; exact hv y
        · rw [pk_un g]; exact z2 y
      · unfold wY_operand_96
        rw [hcn]
        exact br_f e (br_t e2 (And.intro hi (nm_e ⟨rfl, zr_in ⟨R.1, R.2.1, R.2.2.1, R.2.2.2.1, p1, fun z => absurd p0 z, p3, p4⟩⟩)))
      · unfold wY_operand_96
        rw [hcn]
        exact br_f e (br_f e2 (And.intro hi (nm_e ⟨rfl, zr_in ⟨R.1, R.2.1, R.2.2.1, R.2.2.2.1, p1, fun z => absurd p0 z, p3, p4⟩⟩)))
    have yy : ∀ postY : Int32 → SY → Prop, ((ops n = 1 → wpY_within (fun r_72 => ((r_72 = 0 → postY (-8) ((nI L), (nI NC), (nI BC), (nI VC), f_phase, (nI nc), (nI bc), f_place, f_last, f_result, f_fault, ops, fA, fB, fC, ow, vl, gr, kdY, enY, etY, euY, rn, ouY, va)) ∧ (¬ r_72 = 0 → wY_operand_71 postY (nI n) v2 v3 (nI L) (nI NC) (nI BC) (nI VC) f_phase (nI nc) (nI bc) f_place f_last f_result f_fault ops fA fB fC ow vl gr kdY enY etY euY rn ouY va))) ((nI L), (nI NC), (nI BC), (nI VC), f_phase, (nI nc), (nI bc), f_place, f_last, f_result, f_fault, ops, fA, fB, fC, ow, vl, gr, kdY, enY, etY, euY, rn, ouY, va) v3 (nI VC)) ∧ (¬ ops n = 1 → wY_operand_71 postY (nI n) v2 v3 (nI L) (nI NC) (nI BC) (nI VC) f_phase (nI nc) (nI bc) f_place f_last f_result f_fault ops fA fB fC ow vl gr kdY enY etY euY rn ouY va)) → wpY_operand postY ((nI L), (nI NC), (nI BC), (nI VC), f_phase, (nI nc), (nI bc), f_place, f_last, f_result, f_fault, ops, fA, fB, fC, ow, vl, gr, kdY, enY, etY, euY, rn, ouY, va) (nI n) v2 v3 := by
      intro postY h
      refine br_t p0 (br_f a (br_t b (br_f c (And.intro hi (zy_uses ?_)))))
      rw [hcn]
      refine br_t d (And.intro hi h)
    refine And.intro hi (br_c (fun e => ?_) (fun e => ?_))
    · refine zx_isVar c4 (fun z => br_f (by decide) ?_) (fun z => br_t rfl (yy _ (br_t e (zy_within rfl (by omega) (fun y => absurd y z) (fun _ => br_t rfl ⟨rfl, same⟩)))))
      unfold wX_operand_67
      rw [hcn]
      refine And.intro hi (br_t (by rw [e]; exact Int32.le_refl 1) (fin (fun _ => z) (fun postY h => yy _ (br_t e (zy_within rfl (by omega) (fun _ => br_f (by decide) ?_) (fun y => absurd z y))))))
      unfold wY_operand_71
      rw [hcn]
      exact And.intro hi (br_t (by rw [e]; exact Int32.le_refl 1) h)
    · unfold wX_operand_67
      rw [hcn]
      refine And.intro hi (br_c (fun g => fin (fun y => absurd y e) (fun postY h => yy _ (br_f e ?_))) (fun g => zx_nameable c9 (fun z => br_f (by decide) (fin (fun y => absurd y e) (fun postY h => yy _ (br_f e ?_)))) (fun z => br_t rfl (yy _ (br_f e ?_)))))
      · unfold wY_operand_71
        rw [hcn]
        exact And.intro hi (br_t g h)
      · unfold wY_operand_71
        rw [hcn]
        exact And.intro hi (br_f g (zy_within rfl (by omega) (fun _ => br_f (by decide) h) (fun y => absurd z y)))
      · unfold wY_operand_71
        rw [hcn]
        exact And.intro hi (br_f g (zy_within rfl (by omega) (fun y => absurd y z) (fun _ => br_t rfl ⟨rfl, same⟩)))
  · refine br_t p0 (br_f a (br_t b (br_f c (And.intro hi (zy_uses ?_)))))
    rw [hcn]
    exact br_f d ⟨rfl, same⟩
end
section
/-! end and node -/
section ZB
variable {L VC OB nc bc fr NC BC cl ol : Nat} {f_phase f_place f_last f_result f_fault f_mFill f_mStore f_mHalt f_mJump f_raw f_ids f_homes f_cellCount : Int32} {ops fA fB fC ow kd en et eu ou vl rn co cx cy cz ct cs be cc od us ce mo dn bu gr kdY enY etY euY ouY va : Nat → Int32}
theorem zx_end89 {post : Int32 → SX → Prop} {x1 x2 x3 x4 : Int32} (b0 : 0 < bc) (hb : bc ≤ 6) (h : post 0 ((nI L), (nI NC), (nI BC), (nI VC), (nI OB), (nI nc), (nI bc), f_phase, f_place, f_last, f_result, f_fault, f_mFill, f_mStore, f_mHalt, f_mJump, (nI cl), (nI fr), f_raw, f_ids, f_homes, f_cellCount, (nI ol), ops, fA, fB, fC, ow, (upd kd (bc - 1) x1), (upd en (bc - 1) (if x1 = 1 then -1 else x2)), (upd et (bc - 1) (if x1 = 0 then -1 else x3)), (upd eu (bc - 1) (if x1 = 2 then x4 else -1)), ou, vl, rn, co, cx, cy, cz, ct, cs, be, cc, od, us, ce, mo, dn, bu)) : wX_end_89 post x1 x2 x3 x4 (nI L) (nI NC) (nI BC) (nI VC) (nI OB) (nI nc) (nI bc) f_phase f_place f_last f_result f_fault f_mFill f_mStore f_mHalt f_mJump (nI cl) (nI fr) f_raw f_ids f_homes f_cellCount (nI ol) ops fA fB fC ow kd en et eu ou vl rn co cx cy cz ct cs be cc od us ce mo dn bu := by
  have e1 : nI bc - 1 = nI (bc - 1) := bz_sub1 b0
  have hi : vp_in (nI (bc - 1)) 6 := vp_in_nI (by omega) (by decide)
  have hcl : (nI (bc - 1)).toNatClampNeg = bc - 1 := nI_clamp (by omega)
  have k137 : ∀ en1 z, post 0 ((nI L), (nI NC), (nI BC), (nI VC), (nI OB), (nI nc), (nI bc), f_phase, f_place, f_last, f_result, f_fault, f_mFill, f_mStore, f_mHalt, f_mJump, (nI cl), (nI fr), f_raw, f_ids, f_homes, f_cellCount, (nI ol), ops, fA, fB, fC, ow, (upd kd (bc - 1) x1), en1, (upd et (bc - 1) z), (upd eu (bc - 1) (if x1 = 2 then x4 else -1)), ou, vl, rn, co, cx, cy, cz, ct, cs, be, cc, od, us, ce, mo, dn, bu) → wX_end_137 post x1 x4 (nI (bc - 1)) z (nI (bc - 1)) (nI L) (nI NC) (nI BC) (nI VC) (nI OB) (nI nc) (nI bc) f_phase f_place f_last f_result f_fault f_mFill f_mStore f_mHalt f_mJump (nI cl) (nI fr) f_raw f_ids f_homes f_cellCount (nI ol) ops fA fB fC ow (upd kd (bc - 1) x1) en1 et eu ou vl rn co cx cy cz ct cs be cc od us ce mo dn bu := by
    intro en1 z h
    unfold wX_end_137
    rw [hcl]
    refine And.intro hi (nm_e (br_c (fun e => And.intro hi (nm_e ?_)) (fun e => And.intro hi (nm_e ?_))))
    · rw [if_pos e] at h; exact h
    · rw [if_neg e] at h; exact h
  have k121 : ∀ z, post 0 ((nI L), (nI NC), (nI BC), (nI VC), (nI OB), (nI nc), (nI bc), f_phase, f_place, f_last, f_result, f_fault, f_mFill, f_mStore, f_mHalt, f_mJump, (nI cl), (nI fr), f_raw, f_ids, f_homes, f_cellCount, (nI ol), ops, fA, fB, fC, ow, (upd kd (bc - 1) x1), (upd en (bc - 1) z), (upd et (bc - 1) (if x1 = 0 then -1 else x3)), (upd eu (bc - 1) (if x1 = 2 then x4 else -1)), ou, vl, rn, co, cx, cy, cz, ct, cs, be, cc, od, us, ce, mo, dn, bu) → wX_end_121 post x1 x3 x4 (nI (bc - 1)) z (nI (bc - 1)) (nI L) (nI NC) (nI BC) (nI VC) (nI OB) (nI nc) (nI bc) f_phase f_place f_last f_result f_fault f_mFill f_mStore f_mHalt f_mJump (nI cl) (nI fr) f_raw f_ids f_homes f_cellCount (nI ol) ops fA fB fC ow (upd kd (bc - 1) x1) en et eu ou vl rn co cx cy cz ct cs be cc od us ce mo dn bu := by
    intro z h
    unfold wX_end_121
    rw [hcl]
    refine And.intro hi (nm_e (br_c (fun e => k137 _ _ ?_) (fun e => k137 _ _ ?_)))
    · rw [if_pos e] at h; exact h
    · rw [if_neg e] at h; exact h
  unfold wX_end_89
  refine nm_r e1 ?_
  rw [hcl]
  refine And.intro hi (nm_e (br_c (fun e => k121 _ ?_) (fun e => k121 _ ?_)))
  · rw [if_pos e] at h; exact h
  · rw [if_neg e] at h; exact h
theorem zy_end92 {post : Int32 → SY → Prop} {x1 x2 x3 x4 : Int32} (b0 : 0 < bc) (hb : bc ≤ 6) (h : post 0 ((nI L), (nI NC), (nI BC), (nI VC), f_phase, (nI nc), (nI bc), f_place, f_last, f_result, f_fault, ops, fA, fB, fC, ow, vl, gr, (upd kdY (bc - 1) x1), (upd enY (bc - 1) (if x1 = 1 then -1 else x2)), (upd etY (bc - 1) (if x1 = 0 then -1 else x3)), (upd euY (bc - 1) (if x1 = 2 then x4 else -1)), rn, ouY, va)) : wY_end_92 post x1 x2 x3 x4 (nI L) (nI NC) (nI BC) (nI VC) f_phase (nI nc) (nI bc) f_place f_last f_result f_fault ops fA fB fC ow vl gr kdY enY etY euY rn ouY va := by
  have e1 : nI bc - 1 = nI (bc - 1) := bz_sub1 b0
  have hi : vp_in (nI (bc - 1)) 6 := vp_in_nI (by omega) (by decide)
  have hcl : (nI (bc - 1)).toNatClampNeg = bc - 1 := nI_clamp (by omega)
  have k137 : ∀ enY1 z, post 0 ((nI L), (nI NC), (nI BC), (nI VC), f_phase, (nI nc), (nI bc), f_place, f_last, f_result, f_fault, ops, fA, fB, fC, ow, vl, gr, (upd kdY (bc - 1) x1), enY1, (upd etY (bc - 1) z), (upd euY (bc - 1) (if x1 = 2 then x4 else -1)), rn, ouY, va) → wY_end_144 post x1 x4 z (nI (bc - 1)) (nI L) (nI NC) (nI BC) (nI VC) f_phase (nI nc) (nI bc) f_place f_last f_result f_fault ops fA fB fC ow vl gr (upd kdY (bc - 1) x1) enY1 etY euY rn ouY va := by
    intro enY1 z h
    unfold wY_end_144
    rw [e1, hcl]
    refine And.intro hi (nm_e (br_c (fun e => And.intro hi (nm_e ?_)) (fun e => And.intro hi (nm_e ?_))))
    · rw [if_pos e] at h; exact h
    · rw [if_neg e] at h; exact h
  have k121 : ∀ z, post 0 ((nI L), (nI NC), (nI BC), (nI VC), f_phase, (nI nc), (nI bc), f_place, f_last, f_result, f_fault, ops, fA, fB, fC, ow, vl, gr, (upd kdY (bc - 1) x1), (upd enY (bc - 1) z), (upd etY (bc - 1) (if x1 = 0 then -1 else x3)), (upd euY (bc - 1) (if x1 = 2 then x4 else -1)), rn, ouY, va) → wY_end_124 post x1 x3 x4 z (nI (bc - 1)) (nI L) (nI NC) (nI BC) (nI VC) f_phase (nI nc) (nI bc) f_place f_last f_result f_fault ops fA fB fC ow vl gr (upd kdY (bc - 1) x1) enY etY euY rn ouY va := by
    intro z h
    unfold wY_end_124
    rw [e1, hcl]
    refine And.intro hi (nm_e (br_c (fun e => k137 _ _ ?_) (fun e => k137 _ _ ?_)))
    · rw [if_pos e] at h; exact h
    · rw [if_neg e] at h; exact h
  unfold wY_end_92
  rw [e1, hcl]
  refine And.intro hi (nm_e (br_c (fun e => k121 _ ?_) (fun e => k121 _ ?_)))
  · rw [if_pos e] at h; exact h
  · rw [if_neg e] at h; exact h
theorem zr_Rend {x1 x2 x3 x4 : Int32} (R : zr_RR L VC OB nc bc fr NC BC f_phase f_place ops fA fB fC ow kd en et eu ou rn co cx cy cz ct cs be cc kdY enY etY euY ouY va) (p0 : f_phase = 0) (b0 : 0 < bc) (hx : (x1 = 0 ∧ x3 = -1 ∧ x4 = -1) ∨ (x1 = 1 ∧ zb_IN x3 BC ∧ x4 = -1) ∨ (x1 = 2 ∧ zb_IN x3 BC ∧ zb_IN x4 BC)) : zr_RR L VC OB nc bc fr NC BC f_phase f_place ops fA fB fC ow (upd kd (bc - 1) x1) (upd en (bc - 1) x2) (upd et (bc - 1) x3) (upd eu (bc - 1) x4) ou rn co cx cy cz ct cs be cc (upd kdY (bc - 1) x1) (upd enY (bc - 1) x2) (upd etY (bc - 1) x3) (upd euY (bc - 1) x4) ouY va := by
  obtain ⟨c, ⟨w1, w2⟩, ⟨y1, y2, y3, y4⟩, v1', p1, p2, p3, p4⟩ := R
  refine ⟨c, ⟨w1, fun b hb' => ?_⟩, ⟨fun b hb' => ?_, fun b h1 h2 => ?_, y3, y4⟩, v1', p1, fun z => absurd p0 z, p3, p4⟩
  · unfold zr_KB
    by_cases e : b = bc - 1
    · rw [e, pk_us, pk_us, pk_us]
      exact Or.inr hx
    · rw [pk_un e, pk_un e, pk_un e]
      exact w2 b hb'
  · by_cases e : b = bc - 1
    · rw [e, pk_us, pk_us, pk_us, pk_us, pk_us, pk_us, pk_us, pk_us]
      exact ⟨rfl, rfl, rfl, rfl⟩
    · rw [pk_un e, pk_un e, pk_un e, pk_un e, pk_un e, pk_un e, pk_un e, pk_un e]
      exact y1 b hb'
  · have e : b ≠ bc - 1 := by omega
    rw [pk_un e, pk_un e, pk_un e, pk_un e]
    exact y2 b h1 h2
end ZB
theorem i_vc_end {k : Nat} {u : SX} {v : SY} (I : i_Rel k u v) (hk : k + 5 ≤ 2564) (v1 : Int32) (v2 : Int32) (v3 : Int32) (v4 : Int32) : wpX_end (fun r u' => wpY_end (fun r' v' => r' = r ∧ i_Rel (k + 5) u' v') v v1 v2 v3 v4) u v1 v2 v3 v4 := by
  refine zr_el (P := fun u v => wpX_end (fun r u' => wpY_end (fun r' v' => r' = r ∧ i_Rel (k + 5) u' v') v v1 v2 v3 v4) u v1 v2 v3 v4) ?_ I
  intro L VC OB nc bc fr NC BC cl ol f_phase f_place f_last f_result f_fault f_mFill f_mStore f_mHalt f_mJump f_raw f_ids f_homes f_cellCount ops fA fB fC ow kd en et eu ou vl rn co cx cy cz ct cs be cc od us ce mo dn bu gr kdY enY etY euY ouY va R
  have same : i_Rel (k + 5) ((nI L), (nI NC), (nI BC), (nI VC), (nI OB), (nI nc), (nI bc), f_phase, f_place, f_last, f_result, f_fault, f_mFill, f_mStore, f_mHalt, f_mJump, (nI cl), (nI fr), f_raw, f_ids, f_homes, f_cellCount, (nI ol), ops, fA, fB, fC, ow, kd, en, et, eu, ou, vl, rn, co, cx, cy, cz, ct, cs, be, cc, od, us, ce, mo, dn, bu) ((nI L), (nI NC), (nI BC), (nI VC), f_phase, (nI nc), (nI bc), f_place, f_last, f_result, f_fault, ops, fA, fB, fC, ow, vl, gr, kdY, enY, etY, euY, rn, ouY, va) := zr_in R
  have R' := R
  obtain ⟨⟨c1, c2, c3, c4, c5, c6, c7, c8, c9, c10, c11, c12, c13, c14⟩, ⟨w1, w2⟩, ⟨y1, y2, y3, y4⟩, ⟨v1', v2'⟩, p1, p2, p3, p4⟩ := R'
  refine br_c (fun p0 => ?_) (fun p0 => br_f p0 ⟨rfl, same⟩)
  refine br_c (fun b0 => br_t p0 (br_t b0 ⟨rfl, same⟩)) (fun b0 => ?_)
  have hb0 : 0 < bc := by
    by_cases e : bc = 0
    · rw [e] at b0; exact absurd rfl b0
    · omega
  have toY : ∀ postY : Int32 → SY → Prop, zb_IN v1 3 → ((v1 = 1 → wY_end_52 postY v1 v2 v3 v4 (nI L) (nI NC) (nI BC) (nI VC) f_phase (nI nc) (nI bc) f_place f_last f_result f_fault ops fA fB fC ow vl gr kdY enY etY euY rn ouY va) ∧ (¬ v1 = 1 → wpY_within (fun r_100 => ((r_100 = 0 → postY (-9) ((nI L), (nI NC), (nI BC), (nI VC), f_phase, (nI nc), (nI bc), f_place, f_last, f_result, f_fault, ops, fA, fB, fC, ow, vl, gr, kdY, enY, etY, euY, rn, ouY, va)) ∧ (¬ r_100 = 0 → wY_end_52 postY v1 v2 v3 v4 (nI L) (nI NC) (nI BC) (nI VC) f_phase (nI nc) (nI bc) f_place f_last f_result f_fault ops fA fB fC ow vl gr kdY enY etY euY rn ouY va))) ((nI L), (nI NC), (nI BC), (nI VC), f_phase, (nI nc), (nI bc), f_place, f_last, f_result, f_fault, ops, fA, fB, fC, ow, vl, gr, kdY, enY, etY, euY, rn, ouY, va) v2 (nI NC))) → wpY_end postY ((nI L), (nI NC), (nI BC), (nI VC), f_phase, (nI nc), (nI bc), f_place, f_last, f_result, f_fault, ops, fA, fB, fC, ow, vl, gr, kdY, enY, etY, euY, rn, ouY, va) v1 v2 v3 v4 := fun postY z h => br_t p0 (br_f b0 (zy_within (n := 3) rfl (by decide) (fun _ => br_f (by decide) h) (fun y => absurd z y)))
  have no3 : ¬ zb_IN v1 3 → ∀ postY : Int32 → SY → Prop, postY (-12) ((nI L), (nI NC), (nI BC), (nI VC), f_phase, (nI nc), (nI bc), f_place, f_last, f_result, f_fault, ops, fA, fB, fC, ow, vl, gr, kdY, enY, etY, euY, rn, ouY, va) → wpY_end postY ((nI L), (nI NC), (nI BC), (nI VC), f_phase, (nI nc), (nI bc), f_place, f_last, f_result, f_fault, ops, fA, fB, fC, ow, vl, gr, kdY, enY, etY, euY, rn, ouY, va) v1 v2 v3 v4 := fun z postY h => br_t p0 (br_f b0 (zy_within (n := 3) rfl (by decide) (fun y => absurd y z) (fun _ => br_t rfl h)))
  refine br_c (fun a => no3 ?_ _ ⟨rfl, same⟩) (fun a => br_c (fun a2 => ?_) (fun a2 => no3 ?_ _ ⟨rfl, same⟩))
  · rintro ⟨j, hj, e⟩
    rw [e] at a
    exact nI_pos (by omega) a
  · obtain ⟨j, hj, ej⟩ := nI_of2 (M := 2) (n := 2) (by decide) a a2
    have hIN : zb_IN v1 3 := ⟨j, by omega, ej⟩
    have chk : ∀ (x : Int32) (A B : Prop), (zb_IN x BC → B) → (¬ zb_IN x BC → A) → ((x < 0 → A) ∧ (¬ x < 0 → ((x < nI BC → B) ∧ (¬ x < nI BC → A)))) := by
      intro x A B hB hA
      refine br_c (fun z => hA ?_) (fun z => br_c (fun y => hB (bz_ex2 z y (by omega))) (fun y => hA ?_))
      · rintro ⟨m, hm, rfl⟩
        exact nI_pos (by omega) z
      · rintro ⟨m, hm, rfl⟩
        exact y (nI_lt hm (by omega))
    rcases (by omega : j = 0 ∨ j = 1 ∨ j = 2) with h | h | h
    · obtain rfl : v1 = 0 := by rw [ej, h]; rfl
      refine br_f (by decide) (zx_nameable c9 (fun z => br_f (by decide) (br_t rfl (br_f (by decide) (zx_end89 hb0 (by omega) (toY _ hIN (br_f (by decide) (zy_within rfl (by omega) (fun _ => br_f (by decide) (br_t rfl (br_f (by decide) (zy_end92 hb0 (by omega) ⟨rfl, ?_⟩)))) (fun y => absurd z y)))))))) (fun z => br_t rfl (toY _ hIN (br_f (by decide) (zy_within rfl (by omega) (fun y => absurd y z) (fun _ => br_t rfl ⟨rfl, same⟩))))))
      exact zr_in (zr_Rend R p0 hb0 (Or.inl ⟨rfl, rfl, rfl⟩))
    · obtain rfl : v1 = 1 := by rw [ej, h]; rfl
      refine br_t rfl (br_f (by decide) (chk v3 _ _ (fun g => br_f (by decide) (zx_end89 hb0 (by omega) (toY _ hIN (br_t rfl (br_f (by decide) (zy_within rfl (by omega) (fun _ => br_f (by decide) (br_f (by decide) (zy_end92 hb0 (by omega) ⟨rfl, ?_⟩))) (fun y => absurd g y))))))) (fun g => toY _ hIN (br_t rfl (br_f (by decide) (zy_within rfl (by omega) (fun y => absurd y g) (fun _ => br_t rfl ⟨rfl, same⟩)))))))
      exact zr_in (zr_Rend R p0 hb0 (Or.inr (Or.inl ⟨rfl, g, rfl⟩)))
    · obtain rfl : v1 = 2 := by rw [ej, h]; rfl
      refine br_f (by decide) (zx_nameable c9 (fun z => br_f (by decide) (br_f (by decide) (chk v3 _ _ (fun g => br_t rfl (chk v4 _ _ (fun g2 => zx_end89 hb0 (by omega) (toY _ hIN (br_f (by decide) (zy_within rfl (by omega) (fun _ => br_f (by decide) (br_f (by decide) (zy_within rfl (by omega) (fun _ => br_f (by decide) (br_t rfl (zy_within rfl (by omega) (fun _ => br_f (by decide) (zy_end92 hb0 (by omega) ⟨rfl, ?_⟩)) (fun y => absurd g2 y)))) (fun y => absurd g y)))) (fun y => absurd z y))))) (fun g2 => toY _ hIN (br_f (by decide) (zy_within rfl (by omega) (fun _ => br_f (by decide) (br_f (by decide) (zy_within rfl (by omega) (fun _ => br_f (by decide) (br_t rfl (zy_within rfl (by omega) (fun y => absurd y g2) (fun _ => br_t rfl ⟨rfl, same⟩)))) (fun y => absurd g y)))) (fun y => absurd z y)))))) (fun g => toY _ hIN (br_f (by decide) (zy_within rfl (by omega) (fun _ => br_f (by decide) (br_f (by decide) (zy_within rfl (by omega) (fun y => absurd y g) (fun _ => br_t rfl ⟨rfl, same⟩)))) (fun y => absurd z y))))))) (fun z => br_t rfl (toY _ hIN (br_f (by decide) (zy_within rfl (by omega) (fun y => absurd y z) (fun _ => br_t rfl ⟨rfl, same⟩))))))
      exact zr_in (zr_Rend R p0 hb0 (Or.inr (Or.inr ⟨rfl, g, g2⟩)))
  · rintro ⟨j, hj, e⟩
    rw [e] at a2
    exact a2 (nI_le (b := 2) (by omega) (by decide))
end
section
/-! node -/
def zr_nb (NC : Nat) (op x2 x3 x4 : Int32) : Prop := ¬ op ≤ 1 ∧ (¬ zb_IN x2 NC ∨ (1 < zp_fu op ∧ ¬ zb_IN x3 NC) ∨ (2 < zp_fu op ∧ ¬ zb_IN x4 NC))
theorem zr_fu1 {op : Int32} (h : op ≤ 1) : zp_fu op = 1 := by
  unfold zp_fu
  rw [if_neg]
  exact Int32.not_lt.mpr (Int32.le_trans h (by decide))
section ZB
variable {L VC OB nc bc fr NC BC cl ol : Nat} {f_phase f_place f_last f_result f_fault f_mFill f_mStore f_mHalt f_mJump f_raw f_ids f_homes f_cellCount : Int32} {ops fA fB fC ow kd en et eu ou vl rn co cx cy cz ct cs be cc od us ce mo dn bu gr kdY enY etY euY ouY va : Nat → Int32}
theorem zx_nd115 {post : Int32 → SX → Prop} {x1 x2 x3 x4 : Int32} {u : Nat} (hu : u ≤ 3) (b0 : 0 < bc) (hb : bc ≤ 6) (hn : nc < 32) (h : post (nI nc) ((nI L), (nI NC), (nI BC), (nI VC), (nI OB), (nI (nc + 1)), (nI bc), f_phase, f_place, f_last, f_result, f_fault, f_mFill, f_mStore, f_mHalt, f_mJump, (nI cl), (nI fr), f_raw, f_ids, f_homes, f_cellCount, (nI ol), (upd ops nc x1), (upd fA nc x2), (upd fB nc (if u ≤ 1 then 0 else x3)), (upd fC nc (if u ≤ 2 then 0 else x4)), (upd ow nc (nI (bc - 1))), kd, en, et, eu, ou, (upd vl nc 0), rn, co, cx, cy, cz, ct, cs, be, cc, od, us, ce, mo, dn, bu)) : wX_node_115 post x1 x2 x3 x4 (nI u) (nI L) (nI NC) (nI BC) (nI VC) (nI OB) (nI nc) (nI bc) f_phase f_place f_last f_result f_fault f_mFill f_mStore f_mHalt f_mJump (nI cl) (nI fr) f_raw f_ids f_homes f_cellCount (nI ol) ops fA fB fC ow kd en et eu ou vl rn co cx cy cz ct cs be cc od us ce mo dn bu := by
  have hi : vp_in (nI nc) 32 := vp_in_nI hn (by decide)
  have hcl : (nI nc).toNatClampNeg = nc := nI_clamp (by omega)
  have e1 : nI bc - 1 = nI (bc - 1) := bz_sub1 b0
  have k180 : ∀ fB1 z, post (nI nc) ((nI L), (nI NC), (nI BC), (nI VC), (nI OB), (nI (nc + 1)), (nI bc), f_phase, f_place, f_last, f_result, f_fault, f_mFill, f_mStore, f_mHalt, f_mJump, (nI cl), (nI fr), f_raw, f_ids, f_homes, f_cellCount, (nI ol), (upd ops nc x1), (upd fA nc x2), fB1, (upd fC nc z), (upd ow nc (nI (bc - 1))), kd, en, et, eu, ou, (upd vl nc 0), rn, co, cx, cy, cz, ct, cs, be, cc, od, us, ce, mo, dn, bu) → wX_node_180 post (nI nc) z (nI nc) (nI L) (nI NC) (nI BC) (nI VC) (nI OB) (nI (nc + 1)) (nI bc) f_phase f_place f_last f_result f_fault f_mFill f_mStore f_mHalt f_mJump (nI cl) (nI fr) f_raw f_ids f_homes f_cellCount (nI ol) (upd ops nc x1) (upd fA nc x2) fB1 fC ow kd en et eu ou vl rn co cx cy cz ct cs be cc od us ce mo dn bu := by
    intro fB1 z h
    unfold wX_node_180
    rw [hcl, e1]
    exact And.intro hi (nm_e (And.intro hi (nm_e (And.intro hi (nm_e h)))))
  have k161 : ∀ z, post (nI nc) ((nI L), (nI NC), (nI BC), (nI VC), (nI OB), (nI (nc + 1)), (nI bc), f_phase, f_place, f_last, f_result, f_fault, f_mFill, f_mStore, f_mHalt, f_mJump, (nI cl), (nI fr), f_raw, f_ids, f_homes, f_cellCount, (nI ol), (upd ops nc x1), (upd fA nc x2), (upd fB nc z), (upd fC nc (if u ≤ 2 then 0 else x4)), (upd ow nc (nI (bc - 1))), kd, en, et, eu, ou, (upd vl nc 0), rn, co, cx, cy, cz, ct, cs, be, cc, od, us, ce, mo, dn, bu) → wX_node_161 post x4 (nI u) (nI nc) z (nI nc) (nI L) (nI NC) (nI BC) (nI VC) (nI OB) (nI (nc + 1)) (nI bc) f_phase f_place f_last f_result f_fault f_mFill f_mStore f_mHalt f_mJump (nI cl) (nI fr) f_raw f_ids f_homes f_cellCount (nI ol) (upd ops nc x1) (upd fA nc x2) fB fC ow kd en et eu ou vl rn co cx cy cz ct cs be cc od us ce mo dn bu := by
    intro z h
    unfold wX_node_161
    rw [hcl]
    refine And.intro hi (nm_e (pk_le u 2 (fun c => k180 _ _ ?_) (fun c => k180 _ _ ?_)))
    · rw [if_pos c] at h; exact h
    · rw [if_neg (by omega)] at h; exact h
  unfold wX_node_115
  rw [hcl]
  refine nm_r (nI_1 nc) (And.intro hi (nm_e (And.intro hi (nm_e (pk_le u 1 (fun c => k161 _ ?_) (fun c => k161 _ ?_))))))
  · rw [if_pos c] at h; exact h
  · rw [if_neg (by omega)] at h; exact h
theorem zy_nd137 {post : Int32 → SY → Prop} {x1 x2 x3 x4 : Int32} {u : Nat} (hu : u ≤ 3) (b0 : 0 < bc) (hb : bc ≤ 6) (hn : nc < 32) (h : post (nI nc) ((nI L), (nI NC), (nI BC), (nI VC), f_phase, (nI (nc + 1)), (nI bc), f_place, f_last, f_result, f_fault, (upd ops nc x1), (upd fA nc x2), (upd fB nc (if u ≤ 1 then 0 else x3)), (upd fC nc (if u ≤ 2 then 0 else x4)), (upd ow nc (nI (bc - 1))), (upd vl nc 0), gr, kdY, enY, etY, euY, rn, ouY, va)) : wY_node_137 post x1 x2 x3 x4 (nI u) (nI L) (nI NC) (nI BC) (nI VC) f_phase (nI nc) (nI bc) f_place f_last f_result f_fault ops fA fB fC ow vl gr kdY enY etY euY rn ouY va := by
  have hi : vp_in (nI nc) 32 := vp_in_nI hn (by decide)
  have hcl : (nI nc).toNatClampNeg = nc := nI_clamp (by omega)
  have e1 : nI bc - 1 = nI (bc - 1) := bz_sub1 b0
  have k180 : ∀ fB1 z, post (nI nc) ((nI L), (nI NC), (nI BC), (nI VC), f_phase, (nI (nc + 1)), (nI bc), f_place, f_last, f_result, f_fault, (upd ops nc x1), (upd fA nc x2), fB1, (upd fC nc z), (upd ow nc (nI (bc - 1))), (upd vl nc 0), gr, kdY, enY, etY, euY, rn, ouY, va) → wY_node_197 post z (nI nc) (nI L) (nI NC) (nI BC) (nI VC) f_phase (nI nc) (nI bc) f_place f_last f_result f_fault (upd ops nc x1) (upd fA nc x2) fB1 fC ow vl gr kdY enY etY euY rn ouY va := by
    intro fB1 z h
    unfold wY_node_197
    rw [hcl, e1]
    refine And.intro hi (nm_e (And.intro hi (nm_e (And.intro hi (nm_e (nm_r (nI_1 nc) ?_))))))
    rw [nI_pred nc]
    exact h
  have k161 : ∀ z, post (nI nc) ((nI L), (nI NC), (nI BC), (nI VC), f_phase, (nI (nc + 1)), (nI bc), f_place, f_last, f_result, f_fault, (upd ops nc x1), (upd fA nc x2), (upd fB nc z), (upd fC nc (if u ≤ 2 then 0 else x4)), (upd ow nc (nI (bc - 1))), (upd vl nc 0), gr, kdY, enY, etY, euY, rn, ouY, va) → wY_node_176 post x4 (nI u) z (nI nc) (nI L) (nI NC) (nI BC) (nI VC) f_phase (nI nc) (nI bc) f_place f_last f_result f_fault (upd ops nc x1) (upd fA nc x2) fB fC ow vl gr kdY enY etY euY rn ouY va := by
    intro z h
    unfold wY_node_176
    rw [hcl]
    refine And.intro hi (nm_e (pk_lt u 3 (fun c => k180 _ _ ?_) (fun c => k180 _ _ ?_)))
    · rw [if_pos (by omega)] at h; exact h
    · rw [if_neg (by omega)] at h; exact h
  unfold wY_node_137
  rw [hcl]
  refine And.intro hi (nm_e (And.intro hi (nm_e (pk_lt u 2 (fun c => k161 _ ?_) (fun c => k161 _ ?_)))))
  · rw [if_pos (by omega)] at h; exact h
  · rw [if_neg (by omega)] at h; exact h
theorem zx_nd63 {post : Int32 → SX → Prop} {x1 x2 x3 x4 : Int32} (hN : NC ≤ 32) (b0 : 0 < bc) (hb : bc ≤ 6) (hn : nc < 32) (h9 : zr_nb NC x1 x2 x3 x4 → post (-9) ((nI L), (nI NC), (nI BC), (nI VC), (nI OB), (nI nc), (nI bc), f_phase, f_place, f_last, f_result, f_fault, f_mFill, f_mStore, f_mHalt, f_mJump, (nI cl), (nI fr), f_raw, f_ids, f_homes, f_cellCount, (nI ol), ops, fA, fB, fC, ow, kd, en, et, eu, ou, vl, rn, co, cx, cy, cz, ct, cs, be, cc, od, us, ce, mo, dn, bu)) (h : ¬ zr_nb NC x1 x2 x3 x4 → post (nI nc) ((nI L), (nI NC), (nI BC), (nI VC), (nI OB), (nI (nc + 1)), (nI bc), f_phase, f_place, f_last, f_result, f_fault, f_mFill, f_mStore, f_mHalt, f_mJump, (nI cl), (nI fr), f_raw, f_ids, f_homes, f_cellCount, (nI ol), (upd ops nc x1), (upd fA nc x2), (upd fB nc (if zp_fu x1 ≤ 1 then 0 else x3)), (upd fC nc (if zp_fu x1 ≤ 2 then 0 else x4)), (upd ow nc (nI (bc - 1))), kd, en, et, eu, ou, (upd vl nc 0), rn, co, cx, cy, cz, ct, cs, be, cc, od, us, ce, mo, dn, bu)) : wX_node_63 post x1 x2 x3 x4 (nI L) (nI NC) (nI BC) (nI VC) (nI OB) (nI nc) (nI bc) f_phase f_place f_last f_result f_fault f_mFill f_mStore f_mHalt f_mJump (nI cl) (nI fr) f_raw f_ids f_homes f_cellCount (nI ol) ops fA fB fC ow kd en et eu ou vl rn co cx cy cz ct cs be cc od us ce mo dn bu := by
  have f3 := zp_fu1 x1
  unfold wX_node_63
  refine zx_fu ?_
  have fin : ¬ zr_nb NC x1 x2 x3 x4 → wX_node_115 post x1 x2 x3 x4 (nI (zp_fu x1)) (nI L) (nI NC) (nI BC) (nI VC) (nI OB) (nI nc) (nI bc) f_phase f_place f_last f_result f_fault f_mFill f_mStore f_mHalt f_mJump (nI cl) (nI fr) f_raw f_ids f_homes f_cellCount (nI ol) ops fA fB fC ow kd en et eu ou vl rn co cx cy cz ct cs be cc od us ce mo dn bu := fun z => zx_nd115 f3.2 b0 hb hn (h z)
  refine br_c (fun e => fin (fun z => z.1 e)) (fun e => zx_nameable hN (fun g2 => br_f (by decide) ?_) (fun g2 => br_t rfl (h9 ⟨e, Or.inl g2⟩)))
  have k97 : (1 < zp_fu x1 → zb_IN x3 NC) → wX_node_97 post x1 x2 x3 x4 (nI (zp_fu x1)) (nI L) (nI NC) (nI BC) (nI VC) (nI OB) (nI nc) (nI bc) f_phase f_place f_last f_result f_fault f_mFill f_mStore f_mHalt f_mJump (nI cl) (nI fr) f_raw f_ids f_homes f_cellCount (nI ol) ops fA fB fC ow kd en et eu ou vl rn co cx cy cz ct cs be cc od us ce mo dn bu := by
    intro g3
    refine pk_le (zp_fu x1) 2 (fun c => fin ?_) (fun c => zx_nameable hN (fun g4 => br_f (by decide) (fin ?_)) (fun g4 => br_t rfl (h9 ⟨e, Or.inr (Or.inr ⟨by omega, g4⟩)⟩)))
    · rintro ⟨_, z | ⟨z1, z2⟩ | ⟨z1, z2⟩⟩
      · exact z g2
      · exact z2 (g3 z1)
      · omega
    · rintro ⟨_, z | ⟨z1, z2⟩ | ⟨z1, z2⟩⟩
      · exact z g2
      · exact z2 (g3 z1)
      · exact z2 g4
  exact pk_le (zp_fu x1) 1 (fun c => k97 (fun z => absurd z (by omega))) (fun c => zx_nameable hN (fun g3 => br_f (by decide) (k97 (fun _ => g3))) (fun g3 => br_t rfl (h9 ⟨e, Or.inr (Or.inl ⟨by omega, g3⟩)⟩)))
theorem zy_nd67 {post : Int32 → SY → Prop} {x1 x2 x3 x4 : Int32} (hN : NC ≤ 32) (b0 : 0 < bc) (hb : bc ≤ 6) (hn : nc < 32) (h9 : zr_nb NC x1 x2 x3 x4 → post (-9) ((nI L), (nI NC), (nI BC), (nI VC), f_phase, (nI nc), (nI bc), f_place, f_last, f_result, f_fault, ops, fA, fB, fC, ow, vl, gr, kdY, enY, etY, euY, rn, ouY, va)) (h : ¬ zr_nb NC x1 x2 x3 x4 → post (nI nc) ((nI L), (nI NC), (nI BC), (nI VC), f_phase, (nI (nc + 1)), (nI bc), f_place, f_last, f_result, f_fault, (upd ops nc x1), (upd fA nc x2), (upd fB nc (if zp_fu x1 ≤ 1 then 0 else x3)), (upd fC nc (if zp_fu x1 ≤ 2 then 0 else x4)), (upd ow nc (nI (bc - 1))), (upd vl nc 0), gr, kdY, enY, etY, euY, rn, ouY, va)) : wY_node_67 post x1 x2 x3 x4 (nI L) (nI NC) (nI BC) (nI VC) f_phase (nI nc) (nI bc) f_place f_last f_result f_fault ops fA fB fC ow vl gr kdY enY etY euY rn ouY va := by
  have f3 := zp_fu1 x1
  unfold wY_node_67
  refine zy_uses ?_
  have fin : ¬ zr_nb NC x1 x2 x3 x4 → wY_node_137 post x1 x2 x3 x4 (nI (zp_fu x1)) (nI L) (nI NC) (nI BC) (nI VC) f_phase (nI nc) (nI bc) f_place f_last f_result f_fault ops fA fB fC ow vl gr kdY enY etY euY rn ouY va := fun z => zy_nd137 f3.2 b0 hb hn (h z)
  have k94 : (¬ x1 ≤ 1 → zb_IN x2 NC) → wY_node_94 post x1 x2 x3 x4 (nI (zp_fu x1)) (nI L) (nI NC) (nI BC) (nI VC) f_phase (nI nc) (nI bc) f_place f_last f_result f_fault ops fA fB fC ow vl gr kdY enY etY euY rn ouY va := by
    intro g2
    have k115 : (1 < zp_fu x1 → zb_IN x3 NC) → wY_node_115 post x1 x2 x3 x4 (nI (zp_fu x1)) (nI L) (nI NC) (nI BC) (nI VC) f_phase (nI nc) (nI bc) f_place f_last f_result f_fault ops fA fB fC ow vl gr kdY enY etY euY rn ouY va := by
      intro g3
      refine pk_lt (zp_fu x1) 3 (fun c => fin ?_) (fun c => zy_within rfl (by omega) (fun g4 => br_f (by decide) (fin ?_)) (fun g4 => br_t rfl (h9 ⟨fun e => ?_, Or.inr (Or.inr ⟨by omega, g4⟩)⟩)))
      · rintro ⟨e, z | ⟨z1, z2⟩ | ⟨z1, z2⟩⟩
        · exact z (g2 e)
        · exact z2 (g3 z1)
        · omega
      · rintro ⟨e, z | ⟨z1, z2⟩ | ⟨z1, z2⟩⟩
        · exact z (g2 e)
        · exact z2 (g3 z1)
        · exact z2 g4
      · rw [zr_fu1 e] at c; omega
    refine pk_lt (zp_fu x1) 2 (fun c => k115 (fun z => absurd z (by omega))) (fun c => zy_within rfl (by omega) (fun g3 => br_f (by decide) (k115 (fun _ => g3))) (fun g3 => br_t rfl (h9 ⟨fun e => ?_, Or.inr (Or.inl ⟨by omega, g3⟩)⟩)))
    rw [zr_fu1 e] at c; omega
  exact br_c (fun e => k94 (fun z => absurd e z)) (fun e => zy_within rfl (by omega) (fun g2 => br_f (by decide) (k94 (fun _ => g2))) (fun g2 => br_t rfl (h9 ⟨e, Or.inl g2⟩)))
theorem zr_Rnode {x1 x2 : Int32} {fB1 fC1 : Nat → Int32} (R : zr_RR L VC OB nc bc fr NC BC f_phase f_place ops fA fB fC ow kd en et eu ou rn co cx cy cz ct cs be cc kdY enY etY euY ouY va) (p0 : f_phase = 0) (b0 : 0 < bc) (hn : nc < NC) (h1 : zb_IN x1 16) (h2 : x1 = 1 → zb_IN x2 VC) : zr_RR L VC OB (nc + 1) bc fr NC BC f_phase f_place (upd ops nc x1) (upd fA nc x2) fB1 fC1 (upd ow nc (nI (bc - 1))) kd en et eu ou rn co cx cy cz ct cs be cc kdY enY etY euY ouY va := by
  obtain ⟨⟨c1, c2, c3, c4, c5, c6, c7, c8, c9, c10, c11, c12, c13, c14⟩, ⟨w1, w2⟩, yb, v1', p1, p2, p3, p4⟩ := R
  refine ⟨⟨c1, c2, c3, c4, c5, c6, c7, c8, c9, c10, c11, hn, c13, c14⟩, ⟨fun n hn => ?_, w2⟩, yb, v1', p1, fun z => absurd p0 z, p3, p4⟩
  by_cases e : n = nc
  · rw [e, pk_us, pk_us, pk_us]
    exact ⟨h1, h2, bc - 1, by omega, rfl⟩
  · rw [pk_un e, pk_un e, pk_un e]
    exact w1 n (by omega)
end ZB
theorem i_vc_node {k : Nat} {u : SX} {v : SY} (I : i_Rel k u v) (hk : k + 5 ≤ 2564) (v1 : Int32) (v2 : Int32) (v3 : Int32) (v4 : Int32) : wpX_node (fun r u' => wpY_node (fun r' v' => r' = r ∧ i_Rel (k + 5) u' v') v v1 v2 v3 v4) u v1 v2 v3 v4 := by
  refine zr_el (P := fun u v => wpX_node (fun r u' => wpY_node (fun r' v' => r' = r ∧ i_Rel (k + 5) u' v') v v1 v2 v3 v4) u v1 v2 v3 v4) ?_ I
  intro L VC OB nc bc fr NC BC cl ol f_phase f_place f_last f_result f_fault f_mFill f_mStore f_mHalt f_mJump f_raw f_ids f_homes f_cellCount ops fA fB fC ow kd en et eu ou vl rn co cx cy cz ct cs be cc od us ce mo dn bu gr kdY enY etY euY ouY va R
  have same : i_Rel (k + 5) ((nI L), (nI NC), (nI BC), (nI VC), (nI OB), (nI nc), (nI bc), f_phase, f_place, f_last, f_result, f_fault, f_mFill, f_mStore, f_mHalt, f_mJump, (nI cl), (nI fr), f_raw, f_ids, f_homes, f_cellCount, (nI ol), ops, fA, fB, fC, ow, kd, en, et, eu, ou, vl, rn, co, cx, cy, cz, ct, cs, be, cc, od, us, ce, mo, dn, bu) ((nI L), (nI NC), (nI BC), (nI VC), f_phase, (nI nc), (nI bc), f_place, f_last, f_result, f_fault, ops, fA, fB, fC, ow, vl, gr, kdY, enY, etY, euY, rn, ouY, va) := zr_in R
  have R' := R
  obtain ⟨⟨c1, c2, c3, c4, c5, c6, c7, c8, c9, c10, c11, c12, c13, c14⟩, ⟨w1, w2⟩, ⟨y1, y2, y3, y4⟩, ⟨v1', v2'⟩, p1, p2, p3, p4⟩ := R'
  refine br_c (fun p0 => ?_) (fun p0 => br_f p0 ⟨rfl, same⟩)
  refine br_c (fun b0 => br_t p0 (br_t b0 ⟨rfl, same⟩)) (fun b0 => ?_)
  refine br_c (fun n0 => br_t p0 (br_f b0 (br_t n0 ⟨rfl, same⟩))) (fun n0 => ?_)
  have hb0 : 0 < bc := by
    by_cases e : bc = 0
    · rw [e] at b0; exact absurd rfl b0
    · omega
  have hnc : nc < NC := by
    by_cases e : nc = NC
    · rw [e] at n0; exact absurd rfl n0
    · omega
  have no16 : ¬ zb_IN v1 16 → ∀ postY : Int32 → SY → Prop, postY (-7) ((nI L), (nI NC), (nI BC), (nI VC), f_phase, (nI nc), (nI bc), f_place, f_last, f_result, f_fault, ops, fA, fB, fC, ow, vl, gr, kdY, enY, etY, euY, rn, ouY, va) → wpY_node postY ((nI L), (nI NC), (nI BC), (nI VC), f_phase, (nI nc), (nI bc), f_place, f_last, f_result, f_fault, ops, fA, fB, fC, ow, vl, gr, kdY, enY, etY, euY, rn, ouY, va) v1 v2 v3 v4 := fun z postY h => br_t p0 (br_f b0 (br_f n0 (zy_within (n := 16) rfl (by decide) (fun y => absurd y z) (fun _ => br_t rfl h))))
  refine br_c (fun a => no16 ?_ _ ⟨rfl, same⟩) (fun a => br_c (fun a2 => ?_) (fun a2 => no16 ?_ _ ⟨rfl, same⟩))
  · rintro ⟨j, hj, e⟩
    rw [e] at a
    exact nI_pos (by omega) a
  · obtain ⟨j, hj, ej⟩ := nI_of2 (M := 15) (n := 15) (by decide) a a2
    have hIN : zb_IN v1 16 := ⟨j, by omega, ej⟩
    have fin : (v1 = 1 → zb_IN v2 VC) → (∀ postY : Int32 → SY → Prop, wY_node_67 postY v1 v2 v3 v4 (nI L) (nI NC) (nI BC) (nI VC) f_phase (nI nc) (nI bc) f_place f_last f_result f_fault ops fA fB fC ow vl gr kdY enY etY euY rn ouY va → wpY_node postY ((nI L), (nI NC), (nI BC), (nI VC), f_phase, (nI nc), (nI bc), f_place, f_last, f_result, f_fault, ops, fA, fB, fC, ow, vl, gr, kdY, enY, etY, euY, rn, ouY, va) v1 v2 v3 v4) → wX_node_63 (fun r u' => wpY_node (fun r' v' => r' = r ∧ i_Rel (k + 5) u' v') ((nI L), (nI NC), (nI BC), (nI VC), f_phase, (nI nc), (nI bc), f_place, f_last, f_result, f_fault, ops, fA, fB, fC, ow, vl, gr, kdY, enY, etY, euY, rn, ouY, va) v1 v2 v3 v4) v1 v2 v3 v4 (nI L) (nI NC) (nI BC) (nI VC) (nI OB) (nI nc) (nI bc) f_phase f_place f_last f_result f_fault f_mFill f_mStore f_mHalt f_mJump (nI cl) (nI fr) f_raw f_ids f_homes f_cellCount (nI ol) ops fA fB fC ow kd en et eu ou vl rn co cx cy cz ct cs be cc od us ce mo dn bu := by
      intro hv toY
      refine zx_nd63 c9 hb0 (by omega) (by omega) (fun z => toY _ (zy_nd67 c9 hb0 (by omega) (by omega) (fun _ => ⟨rfl, same⟩) (fun y => absurd z y))) (fun z => toY _ (zy_nd67 c9 hb0 (by omega) (by omega) (fun y => absurd y z) (fun _ => ⟨rfl, ?_⟩)))
      exact zr_in (zr_Rnode R p0 hb0 hnc hIN hv)
    refine br_c (fun e => zx_isVar c4 (fun z => br_f (by decide) (fin (fun _ => z) (fun postY h => br_t p0 (br_f b0 (br_f n0 (zy_within (n := 16) rfl (by decide) (fun _ => br_f (by decide) (br_t e (zy_within rfl (by omega) (fun _ => br_f (by decide) h) (fun y => absurd z y)))) (fun y => absurd hIN y))))))) (fun z => br_t rfl (br_t p0 (br_f b0 (br_f n0 (zy_within (n := 16) rfl (by decide) (fun _ => br_f (by decide) (br_t e (zy_within rfl (by omega) (fun y => absurd y z) (fun _ => br_t rfl ⟨rfl, same⟩)))) (fun y => absurd hIN y))))))) (fun e => fin (fun y => absurd y e) (fun postY h => br_t p0 (br_f b0 (br_f n0 (zy_within (n := 16) rfl (by decide) (fun _ => br_f (by decide) (br_f e h)) (fun y => absurd hIN y))))))
  · rintro ⟨j, hj, e⟩
    rw [e] at a2
    exact a2 (nI_le (b := 15) (by omega) (by decide))
end
section
/-! edit, start, set, clear, the constructors -/
theorem i_vc_edit {k : Nat} {u : SX} {v : SY} (I : i_Rel k u v) (hk : k + 5 ≤ 2564) : wpX_edit (fun r u' => wpY_edit (fun r' v' => r' = r ∧ i_Rel (k + 5) u' v') v) u := by
  refine zr_el (P := fun u v => wpX_edit (fun r u' => wpY_edit (fun r' v' => r' = r ∧ i_Rel (k + 5) u' v') v) u) ?_ I
  intro L VC OB nc bc fr NC BC cl ol f_phase f_place f_last f_result f_fault f_mFill f_mStore f_mHalt f_mJump f_raw f_ids f_homes f_cellCount ops fA fB fC ow kd en et eu ou vl rn co cx cy cz ct cs be cc od us ce mo dn bu gr kdY enY etY euY ouY va R
  have same : i_Rel (k + 5) ((nI L), (nI NC), (nI BC), (nI VC), (nI OB), (nI nc), (nI bc), f_phase, f_place, f_last, f_result, f_fault, f_mFill, f_mStore, f_mHalt, f_mJump, (nI cl), (nI fr), f_raw, f_ids, f_homes, f_cellCount, (nI ol), ops, fA, fB, fC, ow, kd, en, et, eu, ou, vl, rn, co, cx, cy, cz, ct, cs, be, cc, od, us, ce, mo, dn, bu) ((nI L), (nI NC), (nI BC), (nI VC), f_phase, (nI nc), (nI bc), f_place, f_last, f_result, f_fault, ops, fA, fB, fC, ow, vl, gr, kdY, enY, etY, euY, rn, ouY, va) := zr_in R
  have R' := R
  obtain ⟨⟨c1, c2, c3, c4, c5, c6, c7, c8, c9, c10, c11, c12, c13, c14⟩, ⟨w1, w2⟩, ⟨y1, y2, y3, y4⟩, ⟨v1', v2'⟩, p1, p2, p3, p4⟩ := R'
  refine br_c (fun p0 => br_t p0 ⟨rfl, same⟩) (fun p0 => zx_wipe (br_f p0 (zy_forget ⟨rfl, ?_⟩)))
  refine zr_in ⟨R.1, R.2.1, R.2.2.1, R.2.2.2.1, Or.inl rfl, fun z => absurd rfl z, fun z => absurd z (by decide), fun _ b hb => ?_⟩
  unfold zb_clr
  rw [if_pos hb]
theorem i_vc_start {k : Nat} {u : SX} {v : SY} (I : i_Rel k u v) (hk : k + 5 ≤ 2564) : wpX_start (fun r u' => wpY_start (fun r' v' => r' = r ∧ i_Rel (k + 5) u' v') v) u := by
  refine zr_el (P := fun u v => wpX_start (fun r u' => wpY_start (fun r' v' => r' = r ∧ i_Rel (k + 5) u' v') v) u) ?_ I
  intro L VC OB nc bc fr NC BC cl ol f_phase f_place f_last f_result f_fault f_mFill f_mStore f_mHalt f_mJump f_raw f_ids f_homes f_cellCount ops fA fB fC ow kd en et eu ou vl rn co cx cy cz ct cs be cc od us ce mo dn bu gr kdY enY etY euY ouY va R
  have same : i_Rel (k + 5) ((nI L), (nI NC), (nI BC), (nI VC), (nI OB), (nI nc), (nI bc), f_phase, f_place, f_last, f_result, f_fault, f_mFill, f_mStore, f_mHalt, f_mJump, (nI cl), (nI fr), f_raw, f_ids, f_homes, f_cellCount, (nI ol), ops, fA, fB, fC, ow, kd, en, et, eu, ou, vl, rn, co, cx, cy, cz, ct, cs, be, cc, od, us, ce, mo, dn, bu) ((nI L), (nI NC), (nI BC), (nI VC), f_phase, (nI nc), (nI bc), f_place, f_last, f_result, f_fault, ops, fA, fB, fC, ow, vl, gr, kdY, enY, etY, euY, rn, ouY, va) := zr_in R
  have R' := R
  obtain ⟨⟨c1, c2, c3, c4, c5, c6, c7, c8, c9, c10, c11, c12, c13, c14⟩, ⟨w1, w2⟩, ⟨y1, y2, y3, y4⟩, ⟨v1', v2'⟩, p1, p2, p3, p4⟩ := R'
  refine br_c (fun p0 => br_t p0 ⟨rfl, same⟩) (fun p0 => br_f p0 ⟨rfl, ?_⟩)
  exact zr_in ⟨R.1, R.2.1, R.2.2.1, R.2.2.2.1, Or.inr (Or.inl rfl), fun _ => p2 p0, fun _ => ⟨0, (p2 p0).1, rfl⟩, fun z => absurd z (by decide)⟩
theorem i_vc_set {k : Nat} {u : SX} {v : SY} (I : i_Rel k u v) (hk : k + 5 ≤ 2564) (v1 : Int32) (v2 : Int32) : wpX_set (fun r u' => wpY_set (fun r' v' => r' = r ∧ i_Rel (k + 5) u' v') v v1 v2) u v1 v2 := by
  refine zr_el (P := fun u v => wpX_set (fun r u' => wpY_set (fun r' v' => r' = r ∧ i_Rel (k + 5) u' v') v v1 v2) u v1 v2) ?_ I
  intro L VC OB nc bc fr NC BC cl ol f_phase f_place f_last f_result f_fault f_mFill f_mStore f_mHalt f_mJump f_raw f_ids f_homes f_cellCount ops fA fB fC ow kd en et eu ou vl rn co cx cy cz ct cs be cc od us ce mo dn bu gr kdY enY etY euY ouY va R
  have same : i_Rel (k + 5) ((nI L), (nI NC), (nI BC), (nI VC), (nI OB), (nI nc), (nI bc), f_phase, f_place, f_last, f_result, f_fault, f_mFill, f_mStore, f_mHalt, f_mJump, (nI cl), (nI fr), f_raw, f_ids, f_homes, f_cellCount, (nI ol), ops, fA, fB, fC, ow, kd, en, et, eu, ou, vl, rn, co, cx, cy, cz, ct, cs, be, cc, od, us, ce, mo, dn, bu) ((nI L), (nI NC), (nI BC), (nI VC), f_phase, (nI nc), (nI bc), f_place, f_last, f_result, f_fault, ops, fA, fB, fC, ow, vl, gr, kdY, enY, etY, euY, rn, ouY, va) := zr_in R
  have R' := R
  obtain ⟨⟨c1, c2, c3, c4, c5, c6, c7, c8, c9, c10, c11, c12, c13, c14⟩, ⟨w1, w2⟩, ⟨y1, y2, y3, y4⟩, ⟨v1', v2'⟩, p1, p2, p3, p4⟩ := R'
  unfold wpX_set
  dsimp only
  refine zx_isVar c4 ?_ ?_
  · rintro ⟨w, hw, rfl⟩
    have hcw : (nI w).toNatClampNeg = w := nI_clamp (by omega)
    have hi6 : vp_in (nI w) 6 := vp_in_nI (by omega) (by decide)
    have toY : ∀ postY : Int32 → SY → Prop, postY 0 ((nI L), (nI NC), (nI BC), (nI VC), f_phase, (nI nc), (nI bc), f_place, f_last, f_result, f_fault, ops, fA, fB, fC, ow, vl, gr, kdY, enY, etY, euY, rn, ouY, (upd va w v2)) → wpY_set postY ((nI L), (nI NC), (nI BC), (nI VC), f_phase, (nI nc), (nI bc), f_place, f_last, f_result, f_fault, ops, fA, fB, fC, ow, vl, gr, kdY, enY, etY, euY, rn, ouY, va) (nI w) v2 := by
      intro postY h
      refine br_f (nI_pos (by omega)) (br_t (nI_lt hw (by omega)) (And.intro hi6 ?_))
      rw [hcw]
      exact nm_e h
    refine br_f (by decide) (pk_le OB w (fun c => And.intro (vp_in_nI (by omega) (by decide)) ?_) (fun c => ?_))
    · rw [hcw]
      refine nm_e (toY _ ⟨rfl, zr_in ⟨R.1, R.2.1, R.2.2.1, ⟨fun x hx => ?_, fun x h1 h2 => ?_⟩, p1, p2, p3, p4⟩⟩)
      · rw [pk_un (by omega)]; exact v1' x hx
      · by_cases e : x = w
        · rw [e, pk_us, pk_us]
        · rw [pk_un e, pk_un e]; exact v2' x h1 h2
    · have hs := zr_slL (i := w) c14 (by omega)
      refine zx_slot c2 c14 (by omega) (And.intro (vp_in_nI (by omega) (by decide)) ?_)
      rw [nI_clamp (show zr_sl L fr w < 2 ^ 31 by omega)]
      refine nm_e (toY _ ⟨rfl, zr_in ⟨R.1, R.2.1, R.2.2.1, ⟨fun x hx => ?_, fun x h1 h2 => ?_⟩, p1, p2, p3, p4⟩⟩)
      · by_cases e : x = w
        · rw [e, pk_us, pk_us]
        · rw [pk_un e, pk_un (fun z => e (zr_slI c14 (by omega) (by omega) z))]; exact v1' x hx
      · rw [pk_un (by omega)]; exact v2' x h1 h2
  · intro hn
    refine br_t rfl (br_c (fun z => ⟨rfl, same⟩) (fun z => br_c (fun y => absurd (bz_ex2 z y (by omega)) hn) (fun y => ⟨rfl, same⟩)))
section ZC
variable {L VC OB nc bc cl ol : Nat} {f_nodeCap f_blockCap f_phase f_place f_last f_result f_fault f_mFill f_mStore f_mHalt f_mJump f_front f_raw f_ids f_homes f_cellCount : Int32} {ops fA fB fC ow kd en et eu ou vl rn co cx cy cz ct cs be cc od us ce mo dn bu : Nat → Int32}
theorem zx_clear {post : SX → Prop} (h : ∀ be1 cc1, (∀ i, i < 12 → be1 i = 0) → (∀ c, c < 44 → cc1 c = 0) → post ((nI L), f_nodeCap, f_blockCap, (nI VC), (nI OB), (nI 0), (nI 0), 0, (-1), (-1), 0, (-1), f_mFill, f_mStore, f_mHalt, f_mJump, (nI cl), 0, f_raw, f_ids, f_homes, f_cellCount, (nI ol), ops, fA, fB, fC, ow, kd, en, et, eu, ou, (zb_clr 32 vl), (zb_clr 6 rn), co, cx, cy, cz, ct, cs, be1, cc1, od, us, ce, mo, dn, bu)) : wpX_clear post ((nI L), f_nodeCap, f_blockCap, (nI VC), (nI OB), (nI nc), (nI bc), f_phase, f_place, f_last, f_result, f_fault, f_mFill, f_mStore, f_mHalt, f_mJump, (nI cl), f_front, f_raw, f_ids, f_homes, f_cellCount, (nI ol), ops, fA, fB, fC, ow, kd, en, et, eu, ou, vl, rn, co, cx, cy, cz, ct, cs, be, cc, od, us, ce, mo, dn, bu) := by
  have key2 : ∀ be1, (∀ i, i < 12 → be1 i = 0) → ∀ d i, i + d = 44 → ∀ cc1, (∀ j, j < i → cc1 j = 0) → wX_clear_48 post (nI L) f_nodeCap f_blockCap (nI VC) (nI OB) (nI 0) (nI 0) 0 (-1) (-1) 0 (-1) f_mFill f_mStore f_mHalt f_mJump (nI cl) 0 f_raw f_ids f_homes f_cellCount (nI ol) (d + 1) (nI i) ops fA fB fC ow kd en et eu ou (zb_clr 32 vl) (zb_clr 6 rn) co cx cy cz ct cs be1 cc1 od us ce mo dn bu := by
    intro be1 hb d
    induction d with
    | zero =>
      intro i hi cc1 hc
      exact br_t (nI_le (a := 44) (by omega) (by omega)) (h be1 cc1 hb (fun j hj => hc j (by omega)))
    | succ d ih =>
      intro i hi cc1 hc
      refine br_f (nI_ge (b := 44) (by omega) (by decide)) (And.intro (vp_in_nI (by omega) (by decide)) ?_)
      rw [nI_clamp (show i < 2 ^ 31 by omega)]
      refine nm_e (nm_r (nI_1 i) (ih (i + 1) (by omega) _ (fun j hj => ?_)))
      by_cases e : j = i
      · rw [e, pk_us]
      · rw [pk_un e]; exact hc j (by omega)
  have key1 : ∀ d i, i + d = 12 → ∀ be1, (∀ j, j < i → be1 j = 0) → wX_clear_27 post (nI L) f_nodeCap f_blockCap (nI VC) (nI OB) (nI 0) (nI 0) 0 (-1) (-1) 0 (-1) f_mFill f_mStore f_mHalt f_mJump (nI cl) 0 f_raw f_ids f_homes f_cellCount (nI ol) (d + 1) (nI i) ops fA fB fC ow kd en et eu ou (zb_clr 32 vl) (zb_clr 6 rn) co cx cy cz ct cs be1 cc od us ce mo dn bu := by
    intro d
    induction d with
    | zero =>
      intro i hi be1 hc
      exact br_t (nI_le (a := 12) (by omega) (by omega)) ⟨_, key2 be1 (fun j hj => hc j (by omega)) 44 0 (by omega) cc (fun j hj => absurd hj (by omega))⟩
    | succ d ih =>
      intro i hi be1 hc
      refine br_f (nI_ge (b := 12) (by omega) (by decide)) (And.intro (vp_in_nI (by omega) (by decide)) ?_)
      rw [nI_clamp (show i < 2 ^ 31 by omega)]
      refine nm_e (nm_r (nI_1 i) (ih (i + 1) (by omega) _ (fun j hj => ?_)))
      by_cases e : j = i
      · rw [e, pk_us]
      · rw [pk_un e]; exact hc j (by omega)
  unfold wpX_clear
  dsimp only
  exact zx_wipe (nc := 0) (bc := 0) ⟨_, key1 12 0 (by omega) be (fun j hj => absurd hj (by omega))⟩
end ZC
section ZC
variable {L VC nc bc : Nat} {f_nodeCap f_blockCap f_phase f_place f_last f_result f_fault : Int32} {ops fA fB fC ow vl gr kd en et eu rn ou va : Nat → Int32}
theorem zy_clear {post : SY → Prop} (h : ∀ kd1 en1 et1 eu1 ou1 va1, (∀ b, b < 6 → kd1 b = -1 ∧ en1 b = -1 ∧ et1 b = -1 ∧ eu1 b = -1) → (∀ i, i < 36 → ou1 i = -1) → (∀ v, v < 6 → va1 v = 0) → post ((nI L), f_nodeCap, f_blockCap, (nI VC), 0, (nI 0), (nI 0), (-1), (-1), 0, (-1), ops, fA, fB, fC, ow, (zb_clr 32 vl), gr, kd1, en1, et1, eu1, (zb_clr 6 rn), ou1, va1)) : wpY_clear post ((nI L), f_nodeCap, f_blockCap, (nI VC), f_phase, (nI nc), (nI bc), f_place, f_last, f_result, f_fault, ops, fA, fB, fC, ow, vl, gr, kd, en, et, eu, rn, ou, va) := by
  have key3 : ∀ kd1 en1 et1 eu1 ou1, (∀ b, b < 6 → kd1 b = -1 ∧ en1 b = -1 ∧ et1 b = -1 ∧ eu1 b = -1) → (∀ i, i < 36 → ou1 i = -1) → ∀ d i, i + d = 6 → ∀ va1, (∀ j, j < i → va1 j = 0) → wY_clear_89 post (nI L) f_nodeCap f_blockCap (nI VC) 0 (nI 0) (nI 0) (-1) (-1) 0 (-1) (d + 1) (nI i) ops fA fB fC ow (zb_clr 32 vl) gr kd1 en1 et1 eu1 (zb_clr 6 rn) ou1 va1 := by
    intro kd1 en1 et1 eu1 ou1 hk ho d
    induction d with
    | zero =>
      intro i hi va1 hc
      exact br_t (nI_le (a := 6) (by omega) (by omega)) (h _ _ _ _ _ _ hk ho (fun j hj => hc j (by omega)))
    | succ d ih =>
      intro i hi va1 hc
      refine br_f (nI_ge (b := 6) (by omega) (by decide)) (And.intro (vp_in_nI (by omega) (by decide)) ?_)
      rw [nI_clamp (show i < 2 ^ 31 by omega)]
      refine nm_e (nm_r (nI_1 i) (ih (i + 1) (by omega) _ (fun j hj => ?_)))
      by_cases e : j = i
      · rw [e, pk_us]
      · rw [pk_un e]; exact hc j (by omega)
  have key2 : ∀ kd1 en1 et1 eu1, (∀ b, b < 6 → kd1 b = -1 ∧ en1 b = -1 ∧ et1 b = -1 ∧ eu1 b = -1) → ∀ d i, i + d = 36 → ∀ ou1, (∀ j, j < i → ou1 j = -1) → wY_clear_68 post (nI L) f_nodeCap f_blockCap (nI VC) 0 (nI 0) (nI 0) (-1) (-1) 0 (-1) (d + 1) (nI i) ops fA fB fC ow (zb_clr 32 vl) gr kd1 en1 et1 eu1 (zb_clr 6 rn) ou1 va := by
    intro kd1 en1 et1 eu1 hk d
    induction d with
    | zero =>
      intro i hi ou1 hc
      exact br_t (nI_le (a := 36) (by omega) (by omega)) ⟨_, key3 _ _ _ _ _ hk (fun j hj => hc j (by omega)) 6 0 (by omega) va (fun j hj => absurd hj (by omega))⟩
    | succ d ih =>
      intro i hi ou1 hc
      refine br_f (nI_ge (b := 36) (by omega) (by decide)) (And.intro (vp_in_nI (by omega) (by decide)) ?_)
      rw [nI_clamp (show i < 2 ^ 31 by omega)]
      refine nm_e (nm_r (nI_1 i) (ih (i + 1) (by omega) _ (fun j hj => ?_)))
      by_cases e : j = i
      · rw [e, pk_us]
      · rw [pk_un e]; exact hc j (by omega)
  have key1 : ∀ d i, i + d = 6 → ∀ kd1 en1 et1 eu1, (∀ b, b < i → kd1 b = -1 ∧ en1 b = -1 ∧ et1 b = -1 ∧ eu1 b = -1) → wY_clear_26 post (nI L) f_nodeCap f_blockCap (nI VC) 0 (nI 0) (nI 0) (-1) (-1) 0 (-1) (d + 1) (nI i) ops fA fB fC ow (zb_clr 32 vl) gr kd1 en1 et1 eu1 (zb_clr 6 rn) ou va := by
    intro d
    induction d with
    | zero =>
      intro i hi kd1 en1 et1 eu1 hc
      exact br_t (nI_le (a := 6) (by omega) (by omega)) ⟨_, key2 _ _ _ _ (fun j hj => hc j (by omega)) 36 0 (by omega) ou (fun j hj => absurd hj (by omega))⟩
    | succ d ih =>
      intro i hi kd1 en1 et1 eu1 hc
      have hin : vp_in (nI i) 6 := vp_in_nI (by omega) (by decide)
      refine br_f (nI_ge (b := 6) (by omega) (by decide)) ?_
      rw [nI_clamp (show i < 2 ^ 31 by omega)]
      refine And.intro hin (nm_e (And.intro hin (nm_e (And.intro hin (nm_e (And.intro hin (nm_e (nm_r (nI_1 i) (ih (i + 1) (by omega) _ _ _ _ (fun j hj => ?_))))))))))
      by_cases e : j = i
      · rw [e, pk_us, pk_us, pk_us, pk_us]
        exact ⟨rfl, rfl, rfl, rfl⟩
      · rw [pk_un e, pk_un e, pk_un e, pk_un e]; exact hc j (by omega)
  unfold wpY_clear
  dsimp only
  exact zy_forget ⟨_, key1 6 0 (by omega) kd en et eu (fun j hj => absurd hj (by omega))⟩
end ZC
section ZC
variable {L VC OB nc bc fr NC BC cl ol : Nat} {f_phase f_place f_last f_result f_fault f_mFill f_mStore f_mHalt f_mJump f_raw f_ids f_homes f_cellCount : Int32} {ops fA fB fC ow kd en et eu ou vl rn co cx cy cz ct cs be cc od us ce mo dn bu gr kdY enY etY euY ouY va : Nat → Int32}
theorem zr_R0 (c1 : 4 ≤ L) (c2 : L ≤ 12) (c3 : 1 ≤ VC) (c4 : VC ≤ 6) (c5 : 1 ≤ OB) (c6 : OB < L) (c7 : OB ≤ VC) (c8 : 8 ≤ NC) (c9 : NC ≤ 32) (c10 : 2 ≤ BC) (c11 : BC ≤ 6) (hb : ∀ i, i < 12 → be i = 0) (hc : ∀ c, c < 44 → cc c = 0) (hk : ∀ b, b < 6 → kdY b = -1 ∧ enY b = -1 ∧ etY b = -1 ∧ euY b = -1) (ho : ∀ i, i < 36 → ouY i = -1) (hv : ∀ v, v < 6 → va v = 0) : zr_RR L VC OB 0 0 0 NC BC 0 (-1) ops fA fB fC ow kd en et eu ou (zb_clr 6 rn) co cx cy cz ct cs be cc kdY enY etY euY ouY va := by
  refine ⟨⟨c1, c2, c3, c4, c5, c6, c7, c8, c9, c10, c11, by omega, by omega, by omega⟩, ⟨fun n hn => absurd hn (by omega), fun b hb => absurd hb (by omega)⟩, ⟨fun b hb => absurd hb (by omega), fun b _ h => hk b h, fun i hi => absurd hi (by omega), fun i _ h => ho i h⟩, ⟨fun v h => ?_, fun v h1 h2 => ?_⟩, Or.inl rfl, fun z => absurd rfl z, fun z => absurd z (by decide), fun _ b hb => ?_⟩
  · have := zr_slL (L := L) (fr := 0) (i := v) (by omega) (by omega)
    rw [hb _ (by omega), hv v (by omega)]
  · rw [hc v (by omega), hv v (by omega)]
  · unfold zb_clr
    rw [if_pos hb]
end ZC
theorem i_vc_clear {k : Nat} {u : SX} {v : SY} (I : i_Rel k u v) (hk : k + 5 ≤ 2564) : wpX_clear (fun u' => wpY_clear (fun v' => i_Rel (k + 5) u' v') v) u := by
  refine zr_el (P := fun u v => wpX_clear (fun u' => wpY_clear (fun v' => i_Rel (k + 5) u' v') v) u) ?_ I
  intro L VC OB nc bc fr NC BC cl ol f_phase f_place f_last f_result f_fault f_mFill f_mStore f_mHalt f_mJump f_raw f_ids f_homes f_cellCount ops fA fB fC ow kd en et eu ou vl rn co cx cy cz ct cs be cc od us ce mo dn bu gr kdY enY etY euY ouY va R
  have same : i_Rel (k + 5) ((nI L), (nI NC), (nI BC), (nI VC), (nI OB), (nI nc), (nI bc), f_phase, f_place, f_last, f_result, f_fault, f_mFill, f_mStore, f_mHalt, f_mJump, (nI cl), (nI fr), f_raw, f_ids, f_homes, f_cellCount, (nI ol), ops, fA, fB, fC, ow, kd, en, et, eu, ou, vl, rn, co, cx, cy, cz, ct, cs, be, cc, od, us, ce, mo, dn, bu) ((nI L), (nI NC), (nI BC), (nI VC), f_phase, (nI nc), (nI bc), f_place, f_last, f_result, f_fault, ops, fA, fB, fC, ow, vl, gr, kdY, enY, etY, euY, rn, ouY, va) := zr_in R
  have R' := R
  obtain ⟨⟨c1, c2, c3, c4, c5, c6, c7, c8, c9, c10, c11, c12, c13, c14⟩, ⟨w1, w2⟩, ⟨y1, y2, y3, y4⟩, ⟨v1', v2'⟩, p1, p2, p3, p4⟩ := R'
  refine zx_clear (fun be1 cc1 hb hc => zy_clear (fun kd1 en1 et1 eu1 ou1 va1 hk ho hv => ?_))
  exact zr_in (nc := 0) (bc := 0) (fr := 0) (zr_R0 c1 c2 c3 c4 c5 c6 c7 c8 c9 c10 c11 hb hc hk ho hv)
end
section
/-! the constructors and run -/
def zr_cl (x lo hi : Int32) : Int32 := if lo ≤ x then (if x ≤ hi then x else hi) else lo
theorem zr_clE (x : Int32) (lo hi : Nat) (h : lo ≤ hi) (hh : hi < 2 ^ 31) : ∃ c, lo ≤ c ∧ c ≤ hi ∧ zr_cl x (nI lo) (nI hi) = nI c := by
  unfold zr_cl
  by_cases a : nI lo ≤ x
  · rw [if_pos a]
    by_cases b : x ≤ nI hi
    · rw [if_pos b]
      have h0 : ¬ x < 0 := by
        intro z
        exact nI_pos (n := lo) (by omega) (Int32.lt_of_le_of_lt a z)
      obtain ⟨j, hj, rfl⟩ := nI_of h0
      exact ⟨j, (nI_leI (by omega) hj).mp a, (nI_leI hj (by omega)).mp b, rfl⟩
    · rw [if_neg b]
      exact ⟨hi, h, Nat.le_refl _, rfl⟩
  · rw [if_neg a]
    exact ⟨lo, Nat.le_refl _, h, rfl⟩
section ZI
variable {f_length f_nodeCap f_blockCap f_varCount f_onBelt f_nodeCount f_blockCount f_phase f_place f_last f_result f_fault f_mFill f_mStore f_mHalt f_mJump f_codeLen f_front f_raw f_ids f_homes f_cellCount f_orderLen : Int32} {a_ops a_fieldA a_fieldB a_fieldC a_owner a_kinds a_endNode a_endT a_endU a_outs a_values a_runs a_codeOp a_codeX a_codeY a_codeZ a_codeTag a_codeStart a_belt a_cells a_order a_uses a_cellOf a_model a_done a_busy : Nat → Int32}
theorem zx_clamp {post : Int32 → Prop} {x lo hi : Int32} (h : post (zr_cl x lo hi)) : wpX_clamp post (f_length, f_nodeCap, f_blockCap, f_varCount, f_onBelt, f_nodeCount, f_blockCount, f_phase, f_place, f_last, f_result, f_fault, f_mFill, f_mStore, f_mHalt, f_mJump, f_codeLen, f_front, f_raw, f_ids, f_homes, f_cellCount, f_orderLen, a_ops, a_fieldA, a_fieldB, a_fieldC, a_owner, a_kinds, a_endNode, a_endT, a_endU, a_outs, a_values, a_runs, a_codeOp, a_codeX, a_codeY, a_codeZ, a_codeTag, a_codeStart, a_belt, a_cells, a_order, a_uses, a_cellOf, a_model, a_done, a_busy) x lo hi := by
  unfold zr_cl at h
  refine br_c (fun a => br_c (fun b => ?_) (fun b => ?_)) (fun a => ?_)
  · rw [if_pos a, if_pos b] at h; exact h
  · rw [if_pos a, if_neg b] at h; exact h
  · rw [if_neg a] at h; exact h
end ZI
section ZI
variable {g_beltLen g_nodeCap g_blockCap g_varCount g_phase g_nodes g_blocks g_place g_last g_result g_fault : Int32} {b_ops b_fa b_fb b_fc b_blk b_val b_ground b_kinds b_en b_et b_eu b_runs b_outs b_vars : Nat → Int32}
theorem zy_clamp {post : Int32 → Prop} {x lo hi : Int32} (h : post (zr_cl x lo hi)) : wpY_clamp post (g_beltLen, g_nodeCap, g_blockCap, g_varCount, g_phase, g_nodes, g_blocks, g_place, g_last, g_result, g_fault, b_ops, b_fa, b_fb, b_fc, b_blk, b_val, b_ground, b_kinds, b_en, b_et, b_eu, b_runs, b_outs, b_vars) x lo hi := by
  unfold zr_cl at h
  refine br_c (fun a => br_c (fun b => ?_) (fun b => ?_)) (fun a => ?_)
  · rw [if_pos a, if_pos b] at h; exact h
  · rw [if_pos a, if_neg b] at h; exact h
  · rw [if_neg a] at h; exact h
end ZI
theorem i_vc0 (k0 : Int32) (k1 : Int32) (k2 : Int32) (k3 : Int32) : wpX_init (fun u => wpY_init (fun v => i_Rel 4 u v) k0 k1 k2 k3) k0 k1 k2 k3 := by
  obtain ⟨L, l1, l2, eL⟩ := zr_clE k0 4 12 (by omega) (by omega)
  obtain ⟨NC, n1, n2, eN⟩ := zr_clE k1 8 32 (by omega) (by omega)
  obtain ⟨BC, b1, b2, eB⟩ := zr_clE k2 2 6 (by omega) (by omega)
  obtain ⟨VC, v1, v2, eV⟩ := zr_clE k3 1 6 (by omega) (by omega)
  have eL' : zr_cl k0 4 12 = nI L := eL
  have eN' : zr_cl k1 8 32 = nI NC := eN
  have eB' : zr_cl k2 2 6 = nI BC := eB
  have eV' : zr_cl k3 1 6 = nI VC := eV
  have key : ∀ OB, 1 ≤ OB → OB < L → OB ≤ VC → wX_init_340 (fun u => wpY_init (fun v => i_Rel 4 u v) k0 k1 k2 k3) (nI OB) (nI L) (nI NC) (nI BC) (nI VC) 0 0 0 0 0 0 0 0 16 17 18 19 0 0 32 38 6 44 0 (fun _ => 0) (fun _ => 0) (fun _ => 0) (fun _ => 0) (fun _ => 0) (fun _ => 0) (fun _ => 0) (fun _ => 0) (fun _ => 0) (fun _ => 0) (fun _ => 0) (fun _ => 0) (fun _ => 0) (fun _ => 0) (fun _ => 0) (fun _ => 0) (fun _ => 0) (fun _ => 0) (fun _ => 0) (fun _ => 0) (fun _ => 0) (fun _ => 0) (fun _ => 0) (fun _ => 0) (fun _ => 0) (fun _ => 0) := by
    intro OB o1 o2 o3
    unfold wX_init_340
    refine zx_clear (L := L) (VC := VC) (OB := OB) (nc := 0) (bc := 0) (cl := 0) (ol := 0) (fun be1 cc1 hb hc => ?_)
    dsimp only
    unfold wpY_init
    refine zy_clamp ?_
    rw [eL']
    refine zy_clamp ?_
    rw [eN']
    refine zy_clamp ?_
    rw [eB']
    refine zy_clamp ?_
    rw [eV']
    refine zy_clear (L := L) (VC := VC) (nc := 0) (bc := 0) (fun kd1 en1 et1 eu1 ou1 va1 hk ho hv => ?_)
    exact zr_in (nc := 0) (bc := 0) (fr := 0) (cl := 0) (ol := 0) (zr_R0 l1 l2 v1 v2 o1 o2 o3 n1 n2 b1 b2 hb hc hk ho hv)
  unfold wpX_init
  refine zx_clamp ?_
  rw [eL']
  refine zx_clamp ?_
  rw [eN']
  refine zx_clamp ?_
  rw [eB']
  refine zx_clamp ?_
  rw [eV']
  refine pk_le L VC (fun c => ?_) (fun c => key VC (by omega) c (Nat.le_refl _))
  rw [bz_sub1 (show 0 < L by omega)]
  exact key (L - 1) (by omega) (by omega) (by omega)
section ZI
variable {L VC OB nc bc fr NC BC cl ol : Nat} {f_phase f_place f_last f_result f_fault f_mFill f_mStore f_mHalt f_mJump f_raw f_ids f_homes f_cellCount : Int32} {ops fA fB fC ow kd en et eu ou vl rn co cx cy cz ct cs be cc od us ce mo dn bu gr kdY enY etY euY ouY va : Nat → Int32}
theorem zr_exec {b : Nat} (R : zr_RR L VC OB nc bc fr NC BC f_phase f_place ops fA fB fC ow kd en et eu ou rn co cx cy cz ct cs be cc kdY enY etY euY ouY va) (hp : f_phase = 1) (hb : f_place = nI b) (hb6 : b < bc) : ∃ fr1 f_phase1 f_place1 f_result1 be1 cc1 vl1 va1, zr_RR L VC OB nc bc fr1 NC BC f_phase1 f_place1 ops fA fB fC ow kd en et eu ou (upd rn b (rn b + 1)) co cx cy cz ct cs be1 cc1 kdY enY etY euY ouY va1 ∧ f_phase1 ≠ 0 ∧ (∀ post : SX → Prop, post ((nI L), (nI NC), (nI BC), (nI VC), (nI OB), (nI nc), (nI bc), f_phase1, f_place1, (nI b), f_result1, f_fault, f_mFill, f_mStore, f_mHalt, f_mJump, (nI cl), (nI fr1), f_raw, f_ids, f_homes, f_cellCount, (nI ol), ops, fA, fB, fC, ow, kd, en, et, eu, ou, vl1, (upd rn b (rn b + 1)), co, cx, cy, cz, ct, cs, be1, cc1, od, us, ce, mo, dn, bu) → wpX_execute post ((nI L), (nI NC), (nI BC), (nI VC), (nI OB), (nI nc), (nI bc), f_phase, f_place, f_last, f_result, f_fault, f_mFill, f_mStore, f_mHalt, f_mJump, (nI cl), (nI fr), f_raw, f_ids, f_homes, f_cellCount, (nI ol), ops, fA, fB, fC, ow, kd, en, et, eu, ou, vl, rn, co, cx, cy, cz, ct, cs, be, cc, od, us, ce, mo, dn, bu) (nI b)) ∧ (∀ post : SY → Prop, post ((nI L), (nI NC), (nI BC), (nI VC), f_phase1, (nI nc), (nI bc), f_place1, (nI b), f_result1, f_fault, ops, fA, fB, fC, ow, vl1, gr, kdY, enY, etY, euY, (upd rn b (rn b + 1)), ouY, va1) → wpY_execute post ((nI L), (nI NC), (nI BC), (nI VC), f_phase, (nI nc), (nI bc), f_place, f_last, f_result, f_fault, ops, fA, fB, fC, ow, vl, gr, kdY, enY, etY, euY, rn, ouY, va) (nI b)) := by
  have R' := R
  obtain ⟨⟨c1, c2, c3, c4, c5, c6, c7, c8, c9, c10, c11, c12, c13, c14⟩, ⟨w1, w2⟩, ⟨y1, y2, y3, y4⟩, ⟨v1', v2'⟩, p1, p2, p3, p4⟩ := R'
  have hph : f_phase ≠ 0 := by rw [hp]; decide
  obtain ⟨g1, ho, hE, ⟨p, hpr⟩, hco, hts⟩ := p2 hph
  have hw : ∀ n, n < nc → ∃ j, j < 16 ∧ ops n = nI j := fun n hn => (w1 n hn).1
  have hn32 : nc ≤ 32 := by omega
  obtain ⟨Vs, hVs⟩ := zp_fix (VC := VC) (ow := ow) (vars := va) hn32 hw ho hpr
  have Eb := hE b hb6
  have hk : kd b = 0 ∨ kd b = 1 ∨ kd b = 2 := by
    rcases w2 b hb6 with ⟨z, _⟩ | ⟨z, _⟩ | ⟨z, _⟩ | ⟨z, _⟩
    · exact absurd z (hts b hb6).1
    · exact Or.inl z
    · exact Or.inr (Or.inl z)
    · exact Or.inr (Or.inr z)
  obtain ⟨yk, yn, yt, yu⟩ := y1 b hb6
  have you : ∀ v, v < 6 → ouY (b * 6 + v) = ou (b * 6 + v) := fun v hv => y3 _ (by omega)
  have EY : zc_EG VC nc ow kdY enY ouY b := by
    refine ⟨fun v hv => ?_, fun z => ?_⟩
    · rw [you v (by omega)]; exact Eb.1 v hv
    · rw [yk] at z; rw [yn]; exact Eb.2 z
  have Vlo : ∀ n, n < 32 → zp_cmb Vs va n = Vs n := fun n hn => by unfold zp_cmb; rw [if_pos hn]
  have Vhi : ∀ v, zp_cmb Vs va (32 + v) = va v := fun v => by
    unfold zp_cmb
    rw [if_neg (by omega), Nat.add_sub_cancel_left]
  obtain ⟨fr1, be1, D1, cc1, vl1, hB1, hx, hX⟩ := zx_execute (fr := fr) (bc := bc) (cl := cl) (ol := ol) (f_nodeCap := nI NC) (f_blockCap := nI BC) (f_phase := f_phase) (f_place := f_place) (f_last := f_last) (f_result := f_result) (f_fault := f_fault) (f_mFill := f_mFill) (f_mStore := f_mStore) (f_mHalt := f_mHalt) (f_mJump := f_mJump) (f_raw := f_raw) (f_ids := f_ids) (f_homes := f_homes) (f_cellCount := f_cellCount) (rn := rn) (od := od) (us := us) (ce := ce) (mo := mo) (dn := dn) (bu := bu) (cc := cc) (vl := vl) (D := fun i => be (zr_sl L fr i)) (V := zp_cmb Vs va) c1 c2 c6 (by omega) hk ⟨c14, fun i _ => rfl⟩ (hco b hb6) (fun n hn _ => by rw [Vlo n (by omega)]; exact hVs n hn) ⟨fun v hv => by rw [Vhi]; exact v1' v hv, fun v h1 h2 => by rw [Vhi]; exact v2' v h1 h2⟩
  obtain ⟨x1, x2, x3, x4⟩ := hx
  have evl : vl1 = zy_yp ops fA fB fC ow va b nc vl nc := by
    funext n
    by_cases c : n < nc ∧ ow n = nI b
    · rw [zy_ypV hn32 hw ho hpr hVs nc n c.1 c.2 (hpr n c.1).1]
      exact ((x4 n).1 c).trans (Vlo n (by omega))
    · rw [zy_ypO nc n c]
      exact (x4 n).2 c
  have hsrc : ∀ v, v < VC → zy_va ouY va (zy_yp ops fA fB fC ow va b nc vl nc) b VC v = zp_cmb Vs va (zm_sr ou b v) := by
    intro v hv
    obtain ⟨s1, s2, s3, s4⟩ := zc_EGs Eb hn32 c4 hv
    unfold zy_va
    rw [you v (by omega)]
    by_cases c : ou (b * 6 + v) = -1
    · rw [if_neg (fun z => z.2 c), s3 c, Vhi]
    · obtain ⟨t1, t2, t3⟩ := s4 c
      rw [if_pos ⟨hv, c⟩, t3, nI_clamp (by omega), Vlo _ (by omega)]
      exact zy_ypV hn32 hw ho hpr hVs nc _ t1 t2 (hpr _ t1).1
  have hen : kd b ≠ 1 → zy_yp ops fA fB fC ow va b nc vl nc (en b).toNatClampNeg = D1 OB := by
    intro z
    obtain ⟨m, hm, e2, hmb⟩ := Eb.2 z
    have := x2 z
    rw [e2, nI_clamp (by omega)] at this
    have t : D1 OB = zp_cmb Vs va m := this
    rw [e2, nI_clamp (by omega), t, Vlo _ (by omega)]
    exact zy_ypV hn32 hw ho hpr hVs nc m hm hmb (hpr m hm).1
  have etp : zr_tp kdY b f_phase = zr_tp kd b f_phase := by unfold zr_tp; rw [yk]
  have etl : zr_tl kdY etY euY b (zy_yp ops fA fB fC ow va b nc vl nc (enY b).toNatClampNeg) = zr_tl kd et eu b (D1 OB) := by
    unfold zr_tl
    rw [yk, yt, yu, yn]
    by_cases z : kd b = 1
    · rw [z]; rfl
    · rw [hen z]
  have etr : zr_tr kdY b (zy_yp ops fA fB fC ow va b nc vl nc (enY b).toNatClampNeg) f_result = zr_tr kd b (D1 OB) f_result := by
    unfold zr_tr
    rw [yk, yn]
    by_cases z : kd b = 1
    · rw [z]; rfl
    · rw [hen z]
  refine ⟨fr1, zr_tp kd b f_phase, zr_tl kd et eu b (D1 OB), zr_tr kd b (D1 OB) f_result, be1, cc1, vl1, zy_va ouY va (zy_yp ops fA fB fC ow va b nc vl nc) b VC, ?_, ?_, hX, ?_⟩
  · refine ⟨⟨c1, c2, c3, c4, c5, c6, c7, c8, c9, c10, c11, c12, c13, hB1.1⟩, ⟨w1, w2⟩, ⟨y1, y2, y3, y4⟩, ⟨fun v hv => ?_, fun v h1 h2 => ?_⟩, ?_, fun _ => p2 hph, fun z => ?_, fun z => ?_⟩
    · rw [hB1.2 v (by omega), hsrc v (by omega)]
      exact x1 v hv
    · rw [hsrc v h2]
      exact x3 v h1 h2
    · unfold zr_tp
      split
      · exact Or.inr (Or.inr rfl)
      · exact p1
    · unfold zr_tp at z
      unfold zr_tl
      have nk : ¬ kd b = 0 := by
        intro y
        rw [if_pos y] at z
        exact absurd z (by decide)
      rw [if_neg nk]
      obtain ⟨_, t1, t2⟩ := hts b hb6
      have nm : ∀ x : Int32, zb_IN x BC → x = -1 ∨ zb_IN x bc → zb_IN x bc := by
        intro x hx hy
        rcases hy with y | y
        · obtain ⟨m, hm, e⟩ := hx
          rw [e] at y
          exact absurd y (bz_n1 (by omega))
        · exact y
      rcases w2 b hb6 with ⟨y, _⟩ | ⟨y, _⟩ | ⟨y, q1, _⟩ | ⟨y, q1, q2⟩
      · exact absurd y (hts b hb6).1
      · exact absurd y nk
      · rw [if_pos y]
        exact nm _ q1 t1
      · rw [if_neg (by rw [y]; decide)]
        split
        · exact nm _ q2 t2
        · exact nm _ q1 t1
    · unfold zr_tp at z
      split at z
      · exact absurd z (by decide)
      · exact absurd z hph
  · unfold zr_tp
    split
    · decide
    · exact hph
  · intro post h
    refine zy_execute (by omega) hn32 c4 hw ho EY (by rw [yk]; exact hk) ?_
    rw [etp, etl, etr, ← evl]
    rw [← evl] at h
    exact h
theorem zr_run {most : Nat} (hm : most ≤ 32) : ∀ d i, i + d = most → ∀ fr f_phase f_place f_last f_result be cc vl rn va, zr_RR L VC OB nc bc fr NC BC f_phase f_place ops fA fB fC ow kd en et eu ou rn co cx cy cz ct cs be cc kdY enY etY euY ouY va → f_phase ≠ 0 → ∃ r u' v', i_Rel 0 u' v' ∧ (∀ post : Int32 → SX → Prop, post r u' → wX_run_24 post (nI most) (d + 1) (nI i) (nI i) (nI L) (nI NC) (nI BC) (nI VC) (nI OB) (nI nc) (nI bc) f_phase f_place f_last f_result f_fault f_mFill f_mStore f_mHalt f_mJump (nI cl) (nI fr) f_raw f_ids f_homes f_cellCount (nI ol) ops fA fB fC ow kd en et eu ou vl rn co cx cy cz ct cs be cc od us ce mo dn bu) ∧ (∀ post : Int32 → SY → Prop, post r v' → wY_run_21 post (nI most) (d + 1) (nI i) (nI L) (nI NC) (nI BC) (nI VC) f_phase (nI nc) (nI bc) f_place f_last f_result f_fault ops fA fB fC ow vl gr kdY enY etY euY rn ouY va) := by
  intro d
  induction d with
  | zero =>
    intro i hi fr f_phase f_place f_last f_result be cc vl rn va R hp
    obtain rfl : i = most := by omega
    refine ⟨nI i, _, _, zr_in (cl := cl) (ol := ol) (f_last := f_last) (f_result := f_result) (f_fault := f_fault) (f_mFill := f_mFill) (f_mStore := f_mStore) (f_mHalt := f_mHalt) (f_mJump := f_mJump) (f_raw := f_raw) (f_ids := f_ids) (f_homes := f_homes) (f_cellCount := f_cellCount) (vl := vl) (od := od) (us := us) (ce := ce) (mo := mo) (dn := dn) (bu := bu) (gr := gr) R, fun post h => br_t (nI_le (by omega) (by omega)) h, fun post h => ?_⟩
    refine pk_le 32 i (fun c => ?_) (fun c => br_t (nI_le (by omega) (by omega)) h)
    have e : i = 32 := by omega
    rw [e] at h
    exact h
  | succ d ih =>
    intro i hi fr f_phase f_place f_last f_result be cc vl rn va R hp
    by_cases h1 : f_phase = 1
    · obtain ⟨b, hb, eb⟩ := R.2.2.2.2.2.2.1 h1
      have hbc : bc ≤ 6 := by
        have c := R.1
        unfold zr_cst at c
        omega
      obtain ⟨fr1, f_phase1, f_place1, f_result1, be1, cc1, vl1, va1, R1, hp1, hX, hY⟩ := zr_exec (cl := cl) (ol := ol) (f_last := f_last) (f_result := f_result) (f_fault := f_fault) (f_mFill := f_mFill) (f_mStore := f_mStore) (f_mHalt := f_mHalt) (f_mJump := f_mJump) (f_raw := f_raw) (f_ids := f_ids) (f_homes := f_homes) (f_cellCount := f_cellCount) (vl := vl) (od := od) (us := us) (ce := ce) (mo := mo) (dn := dn) (bu := bu) (gr := gr) R h1 eb hb
      obtain ⟨r, u', v', hR, iX, iY⟩ := ih (i + 1) (by omega) fr1 f_phase1 f_place1 (nI b) f_result1 be1 cc1 vl1 (upd rn b (rn b + 1)) va1 R1 hp1
      refine ⟨r, u', v', hR, fun post h => ?_, fun post h => ?_⟩
      · refine br_f (nI_ge (by omega) (by omega)) (br_t h1 ?_)
        rw [eb] at hX ⊢
        exact hX _ (nm_r (nI_1 i) (nm_r (nI_1 i) (iX post h)))
      · refine br_f (nI_ge (b := 32) (by omega) (by decide)) (br_f (nI_ge (by omega) (by omega)) (br_t h1 (zy_within rfl (by omega) (fun _ => br_f (by decide) ?_) (fun z => absurd ⟨b, hb, eb⟩ z))))
        rw [eb] at hY ⊢
        exact hY _ (nm_r (nI_1 i) (iY post h))
    · refine ⟨nI i, _, _, zr_in (cl := cl) (ol := ol) (f_last := f_last) (f_result := f_result) (f_fault := f_fault) (f_mFill := f_mFill) (f_mStore := f_mStore) (f_mHalt := f_mHalt) (f_mJump := f_mJump) (f_raw := f_raw) (f_ids := f_ids) (f_homes := f_homes) (f_cellCount := f_cellCount) (vl := vl) (od := od) (us := us) (ce := ce) (mo := mo) (dn := dn) (bu := bu) (gr := gr) R, fun post h => br_f (nI_ge (by omega) (by omega)) (br_f h1 h), fun post h => br_f (nI_ge (b := 32) (by omega) (by decide)) (br_f (nI_ge (by omega) (by omega)) (br_f h1 h))⟩
end ZI
theorem i_vc_run {k : Nat} {u : SX} {v : SY} (I : i_Rel k u v) (hk : k + 5 ≤ 2564) (v1 : Int32) : wpX_run (fun r u' => wpY_run (fun r' v' => r' = r ∧ i_Rel (k + 5) u' v') v v1) u v1 := by
  refine zr_el (P := fun u v => wpX_run (fun r u' => wpY_run (fun r' v' => r' = r ∧ i_Rel (k + 5) u' v') v v1) u v1) ?_ I
  intro L VC OB nc bc fr NC BC cl ol f_phase f_place f_last f_result f_fault f_mFill f_mStore f_mHalt f_mJump f_raw f_ids f_homes f_cellCount ops fA fB fC ow kd en et eu ou vl rn co cx cy cz ct cs be cc od us ce mo dn bu gr kdY enY etY euY ouY va R
  have same : i_Rel (k + 5) ((nI L), (nI NC), (nI BC), (nI VC), (nI OB), (nI nc), (nI bc), f_phase, f_place, f_last, f_result, f_fault, f_mFill, f_mStore, f_mHalt, f_mJump, (nI cl), (nI fr), f_raw, f_ids, f_homes, f_cellCount, (nI ol), ops, fA, fB, fC, ow, kd, en, et, eu, ou, vl, rn, co, cx, cy, cz, ct, cs, be, cc, od, us, ce, mo, dn, bu) ((nI L), (nI NC), (nI BC), (nI VC), f_phase, (nI nc), (nI bc), f_place, f_last, f_result, f_fault, ops, fA, fB, fC, ow, vl, gr, kdY, enY, etY, euY, rn, ouY, va) := zr_in R
  obtain ⟨most, m1, m2, em⟩ := zr_clE v1 0 32 (by omega) (by omega)
  have em' : zr_cl v1 0 32 = nI most := em
  refine br_c (fun p0 => br_t p0 ⟨rfl, same⟩) (fun p0 => zx_clamp ?_)
  rw [em']
  obtain ⟨r, u', v', hR, iX, iY⟩ := zr_run (cl := cl) (ol := ol) (f_fault := f_fault) (f_mFill := f_mFill) (f_mStore := f_mStore) (f_mHalt := f_mHalt) (f_mJump := f_mJump) (f_raw := f_raw) (f_ids := f_ids) (f_homes := f_homes) (f_cellCount := f_cellCount) (od := od) (us := us) (ce := ce) (mo := mo) (dn := dn) (bu := bu) (gr := gr) m2 most 0 (by omega) fr f_phase f_place f_last f_result be cc vl rn va R p0
  refine ⟨_, iX _ (br_f p0 (zy_clamp ?_))⟩
  rw [em']
  exact ⟨_, iY _ ⟨rfl, hR⟩⟩
end
section
/-! compile on both sides -/
section ZK
variable {L VC OB nc bc fr NC BC cl ol : Nat} {f_phase f_place f_last f_result f_fault f_mFill f_mStore f_mHalt f_mJump f_raw f_ids f_homes f_cellCount : Int32} {ops fA fB fC ow kd en et eu ou vl rn co cx cy cz ct cs be cc od us ce mo dn bu gr kdY enY etY euY ouY va : Nat → Int32}
theorem zr_bbY (hb6 : bc ≤ 6) (hV : VC ≤ 6) (Y : zr_yb bc kd en et eu ou kdY enY etY euY ouY) {b : Nat} (hb : b < bc) : zr_bb VC nc bc ow kdY enY etY euY ouY b ↔ zr_bb VC nc bc ow kd en et eu ou b := by
  obtain ⟨y1, y2, y3, y4⟩ := Y
  obtain ⟨z1, z2, z3, z4⟩ := y1 b hb
  have hou : ∀ v, v < VC → ouY (b * 6 + v) = ou (b * 6 + v) := fun v hv => y3 _ (by omega)
  unfold zr_bb
  rw [z1, z2, z3, z4]
  constructor
  · rintro (⟨v, hv, q⟩ | q)
    · rw [hou v hv] at q
      exact Or.inl ⟨v, hv, q⟩
    · exact Or.inr q
  · rintro (⟨v, hv, q⟩ | q)
    · refine Or.inl ⟨v, hv, ?_⟩
      rw [hou v hv]
      exact q
    · exact Or.inr q
theorem zr_KBY (Y : zr_yb bc kd en et eu ou kdY enY etY euY ouY) (h : ∀ b, b < bc → zr_KB BC bc kd et eu b) : ∀ b, b < bc → zr_KB BC bc kdY etY euY b := by
  intro b hb
  obtain ⟨z1, z2, z3, z4⟩ := Y.1 b hb
  have := h b hb
  unfold zr_KB at this ⊢
  rw [z1, z3, z4]
  exact this
theorem zr_Rgood {co1 cx1 cy1 cz1 ct1 cs1 : Nat → Int32} (R : zr_RR L VC OB nc bc fr NC BC f_phase f_place ops fA fB fC ow kd en et eu ou rn co cx cy cz ct cs be cc kdY enY etY euY ouY va) (b0 : 0 < bc) (hk : kd (bc - 1) ≠ -1) (hg : ∀ n, n < nc → ¬ zr_bn nc ops fA fB fC ow n) (hgb : ∀ b, b < bc → ¬ zr_bb VC nc bc ow kd en et eu ou b) (hgg : ∀ n, n < nc → ¬ zp_gp ops fA fB fC nc nc n = false) (hcode : ∀ b, b < bc → zr_code L OB VC nc ops fA fB fC ow kd en et eu ou co1 cx1 cy1 cz1 ct1 cs1 b 1024) : zr_RR L VC OB nc bc fr NC BC 1 0 ops fA fB fC ow kd en et eu ou (zb_clr 6 rn) co1 cx1 cy1 cz1 ct1 cs1 be cc kdY enY etY euY ouY va := by
  obtain ⟨⟨c1, c2, c3, c4, c5, c6, c7, c8, c9, c10, c11, c12, c13, c14⟩, ⟨w1, w2⟩, yb, bv, p1, p2, p3, p4⟩ := R
  have ho := zr_OKof (VC := VC) (fun n hn => ⟨(w1 n hn).1, (w1 n hn).2.1⟩) (by omega) c4 hg
  refine ⟨⟨c1, c2, c3, c4, c5, c6, c7, c8, c9, c10, c11, c12, c13, c14⟩, ⟨w1, w2⟩, yb, bv, Or.inr (Or.inl rfl), fun _ => ⟨b0, ho, fun b hb => zr_EGof (hgb b hb), ?_, hcode, fun b hb => ?_⟩, fun _ => ⟨0, b0, rfl⟩, fun z => absurd z (by decide)⟩
  · refine zp_rank ho (fun n hn' => ?_)
    have := hgg n hn'
    cases hq : zp_gp ops fA fB fC nc nc n with
    | true => rfl
    | false => exact absurd hq this
  · have h1 : ∀ x : Int32, zb_IN x BC → ¬ nI bc ≤ x → zb_IN x bc := by
      rintro x ⟨m, hm, rfl⟩ z
      refine ⟨m, ?_, rfl⟩
      by_cases c : m < bc
      · exact c
      · exact absurd (nI_le (by omega) (by omega)) z
    have h2 : ¬ nI bc ≤ et b := fun z => hgb b hb (Or.inr (Or.inr (Or.inl z)))
    have h3 : ¬ nI bc ≤ eu b := fun z => hgb b hb (Or.inr (Or.inr (Or.inr z)))
    rcases w2 b hb with ⟨z1, z2, _⟩ | ⟨z1, z2, z3⟩ | ⟨z1, z2, z3⟩ | ⟨z1, z2, z3⟩
    · have e : b = bc - 1 := by omega
      rw [e] at z1
      exact absurd z1 hk
    · exact ⟨by rw [z1]; decide, Or.inl z2, Or.inl z3⟩
    · exact ⟨by rw [z1]; decide, Or.inr (h1 _ z2 h2), Or.inl z3⟩
    · exact ⟨by rw [z1]; decide, Or.inr (h1 _ z2 h2), Or.inr (h1 _ z3 h3)⟩
end ZK
theorem zb_fstU {P : Nat → Prop} {a b : Nat} (ha : P a) (hla : ∀ m, m < a → ¬ P m) (hb : P b) (hlb : ∀ m, m < b → ¬ P m) : a = b := by
  by_cases c : a < b
  · exact absurd ha (hlb a c)
  · by_cases d : b < a
    · exact absurd hb (hla b d)
    · omega
theorem i_vc_compile {k : Nat} {u : SX} {v : SY} (I : i_Rel k u v) (hk : k + 5 ≤ 2564) : wpX_compile (fun r u' => wpY_compile (fun r' v' => r' = r ∧ i_Rel (k + 5) u' v') v) u := by
  refine zr_el (P := fun u v => wpX_compile (fun r u' => wpY_compile (fun r' v' => r' = r ∧ i_Rel (k + 5) u' v') v) u) ?_ I
  intro L VC OB nc bc fr NC BC cl ol f_phase f_place f_last f_result f_fault f_mFill f_mStore f_mHalt f_mJump f_raw f_ids f_homes f_cellCount ops fA fB fC ow kd en et eu ou vl rn co cx cy cz ct cs be cc od us ce mo dn bu gr kdY enY etY euY ouY va R
  have same : i_Rel (k + 5) ((nI L), (nI NC), (nI BC), (nI VC), (nI OB), (nI nc), (nI bc), f_phase, f_place, f_last, f_result, f_fault, f_mFill, f_mStore, f_mHalt, f_mJump, (nI cl), (nI fr), f_raw, f_ids, f_homes, f_cellCount, (nI ol), ops, fA, fB, fC, ow, kd, en, et, eu, ou, vl, rn, co, cx, cy, cz, ct, cs, be, cc, od, us, ce, mo, dn, bu) ((nI L), (nI NC), (nI BC), (nI VC), f_phase, (nI nc), (nI bc), f_place, f_last, f_result, f_fault, ops, fA, fB, fC, ow, vl, gr, kdY, enY, etY, euY, rn, ouY, va) := zr_in R
  have sameF : ∀ f_fault, i_Rel (k + 5) ((nI L), (nI NC), (nI BC), (nI VC), (nI OB), (nI nc), (nI bc), f_phase, f_place, f_last, f_result, f_fault, f_mFill, f_mStore, f_mHalt, f_mJump, (nI cl), (nI fr), f_raw, f_ids, f_homes, f_cellCount, (nI ol), ops, fA, fB, fC, ow, kd, en, et, eu, ou, vl, rn, co, cx, cy, cz, ct, cs, be, cc, od, us, ce, mo, dn, bu) ((nI L), (nI NC), (nI BC), (nI VC), f_phase, (nI nc), (nI bc), f_place, f_last, f_result, f_fault, ops, fA, fB, fC, ow, vl, gr, kdY, enY, etY, euY, rn, ouY, va) := fun f_fault => zr_in R
  have R' := R
  obtain ⟨⟨c1, c2, c3, c4, c5, c6, c7, c8, c9, c10, c11, c12, c13, c14⟩, ⟨w1, w2⟩, yb, ⟨v1', v2'⟩, p1, p2, p3, p4⟩ := R'
  have hn : nc ≤ 32 := by omega
  have hb6 : bc ≤ 6 := by omega
  have hw : ∀ n, n < nc → (∃ j, j < 16 ∧ ops n = nI j) ∧ (ops n = 1 → zb_IN (fA n) VC) := fun n hn => ⟨(w1 n hn).1, (w1 n hn).2.1⟩
  have hKY := zr_KBY yb w2
  have bbY : ∀ b, b < bc → (zr_bb VC nc bc ow kdY enY etY euY ouY b ↔ zr_bb VC nc bc ow kd en et eu ou b) := fun b hb => zr_bbY hb6 c4 yb hb
  have kY : 0 < bc → kdY (bc - 1) = kd (bc - 1) := fun z => (yb.1 (bc - 1) (by omega)).1
  refine zx_compile c1 c2 c5 c6 c7 c4 hn hb6 hw ?_ ?_ ?_ ?_ ?_ ?_ ?_
  · intro p0
    exact br_f p0 ⟨rfl, same⟩
  · intro p0 b0
    refine br_t p0 (br_t ?_ ⟨rfl, sameF _⟩)
    rw [b0]
    rfl
  · intro p0 b0 k1
    refine zy_compile c4 hn hb6 c11 hw hKY p0 b0 (fun _ => ⟨rfl, sameF _⟩) (fun z => ?_) (fun z => ?_) (fun z => ?_) (fun z => ?_)
    · rw [kY b0] at z; exact absurd k1 z
    · rw [kY b0] at z; exact absurd k1 z
    · rw [kY b0] at z; exact absurd k1 z
    · rw [kY b0] at z; exact absurd k1 z
  · intro p0 b0 k1 n hn' hbad hl
    refine zy_compile c4 hn hb6 c11 hw hKY p0 b0 (fun z => ?_) (fun _ n' hn2 hbad2 hl2 => ?_) (fun _ g => absurd hbad (g n hn')) (fun _ g => absurd hbad (g n hn')) (fun _ g => absurd hbad (g n hn'))
    · rw [kY b0] at z; exact absurd z k1
    · rw [zb_fstU hbad2 hl2 hbad hl]
      exact ⟨rfl, sameF _⟩
  · intro p0 b0 k1 hg b hb' hbad hl
    refine zy_compile c4 hn hb6 c11 hw hKY p0 b0 (fun z => ?_) (fun _ n' hn2 hbad2 _ => absurd hbad2 (hg n' hn2)) (fun _ _ b2 hb2 hbad2 hl2 => ?_) (fun _ _ g => absurd ((bbY b hb').mpr hbad) (g b hb')) (fun _ _ g => absurd ((bbY b hb').mpr hbad) (g b hb'))
    · rw [kY b0] at z; exact absurd z k1
    · rw [zb_fstU ((bbY b2 hb2).mp hbad2) (fun m hm => fun z => hl2 m hm ((bbY m (by omega)).mpr z)) hbad hl]
      exact ⟨rfl, sameF _⟩
  · intro p0 b0 k1 hg hgb n dn1 hn' hbad hl
    refine zy_compile c4 hn hb6 c11 hw hKY p0 b0 (fun z => ?_) (fun _ n' hn2 hbad2 _ => absurd hbad2 (hg n' hn2)) (fun _ _ b2 hb2 hbad2 _ => absurd ((bbY b2 hb2).mp hbad2) (hgb b2 hb2)) (fun _ _ _ n2 gr1 hn2 hbad2 hl2 => ?_) (fun _ _ _ g => absurd hbad (g n hn'))
    · rw [kY b0] at z; exact absurd z k1
    · rw [zb_fstU (P := fun n => zp_gp ops fA fB fC nc nc n = false) hbad2 hl2 hbad hl]
      exact ⟨rfl, zr_in R⟩
  · intro p0 b0 k1 hg hgb hgg cl1 ol1 co1 cx1 cy1 cz1 ct1 cs1 od1 us1 ce1 mo1 dn1 bu1 hcode
    refine zy_compile c4 hn hb6 c11 hw hKY p0 b0 (fun z => ?_) (fun _ n' hn2 hbad2 _ => absurd hbad2 (hg n' hn2)) (fun _ _ b2 hb2 hbad2 _ => absurd ((bbY b2 hb2).mp hbad2) (hgb b2 hb2)) (fun _ _ _ n2 gr1 hn2 hbad2 hl2 => absurd hbad2 (hgg n2 hn2)) (fun _ _ _ _ gr1 => ⟨rfl, ?_⟩)
    · rw [kY b0] at z; exact absurd z k1
    · exact zr_in (zr_Rgood R b0 k1 hg hgb hgg hcode)
end
