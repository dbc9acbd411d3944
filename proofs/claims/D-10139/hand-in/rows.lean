section
/-! ===== sums over small numbers ===== -/
/-- a picture with one place changed -/
def fm_u {α : Type} (f : Nat → α) (k : Nat) (x : α) : Nat → α := fun j => if j = k then x else f j
theorem fm_us {α : Type} {f : Nat → α} {k : Nat} {x : α} : fm_u f k x k = x := if_pos rfl
theorem fm_un {α : Type} {f : Nat → α} {k j : Nat} {x : α} (h : j ≠ k) : fm_u f k x j = f j := if_neg h
theorem fm_uu {α : Type} {f : Nat → α} {k : Nat} {x : α} (h : f k = x) : fm_u f k x = f := by
  funext j
  by_cases e : j = k
  · rw [e, fm_us, h]
  · rw [fm_un e]
/-- the sum of f below n -/
def fm_sm (f : Nat → Nat) : Nat → Nat
  | 0 => 0
  | n + 1 => fm_sm f n + f n
theorem fm_smS (f : Nat → Nat) (n : Nat) : fm_sm f (n + 1) = fm_sm f n + f n := rfl
theorem fm_sm_le {f g : Nat → Nat} {n : Nat} (h : ∀ i, i < n → f i ≤ g i) : fm_sm f n ≤ fm_sm g n := by
  induction n with
  | zero => exact Nat.le_refl _
  | succ n ih =>
    have h1 := ih (fun i hi => h i (by omega))
    have h2 := h n (by omega)
    rw [fm_smS, fm_smS]
    omega
theorem fm_sm_eq {f g : Nat → Nat} {n : Nat} (h : ∀ i, i < n → f i = g i) : fm_sm f n = fm_sm g n := by
  induction n with
  | zero => rfl
  | succ n ih =>
    have h1 := ih (fun i hi => h i (by omega))
    have h2 := h n (by omega)
    rw [fm_smS, fm_smS, h1, h2]
theorem fm_sm_add (f g : Nat → Nat) (n : Nat) : fm_sm (fun i => f i + g i) n = fm_sm f n + fm_sm g n := by
  induction n with
  | zero => rfl
  | succ n ih =>
    rw [fm_smS, fm_smS, fm_smS, ih]
    omega
theorem fm_sm_0 (n : Nat) : fm_sm (fun _ => 0) n = 0 := by
  induction n with
  | zero => rfl
  | succ n ih => rw [fm_smS, ih]
theorem fm_sm_swap (f : Nat → Nat → Nat) (m n : Nat) : fm_sm (fun i => fm_sm (fun j => f i j) n) m = fm_sm (fun j => fm_sm (fun i => f i j) m) n := by
  induction m with
  | zero => exact (fm_sm_0 n).symm
  | succ m ih =>
    rw [fm_smS, ih, ← fm_sm_add]
    rfl
theorem fm_sm_mono {f : Nat → Nat} {d n : Nat} (h : d ≤ n) : fm_sm f d ≤ fm_sm f n := by
  induction n with
  | zero =>
    have e : d = 0 := by omega
    rw [e]
    exact Nat.le_refl _
  | succ n ih =>
    by_cases e : d = n + 1
    · rw [e]
      exact Nat.le_refl _
    · have h1 := ih (by omega)
      rw [fm_smS]
      omega
theorem fm_sm_ge {f : Nat → Nat} {i n : Nat} (h : i < n) : f i ≤ fm_sm f n := by
  have h1 : fm_sm f (i + 1) ≤ fm_sm f n := fm_sm_mono h
  rw [fm_smS] at h1
  omega
theorem fm_sm_bd {f : Nat → Nat} {n : Nat} (h : ∀ i, i < n → f i ≤ 1) : fm_sm f n ≤ n := by
  induction n with
  | zero => exact Nat.le_refl _
  | succ n ih =>
    have h1 := ih (fun i hi => h i (by omega))
    have h2 := h n (by omega)
    rw [fm_smS]
    omega
/-- one place changed -/
theorem fm_sm_u (f : Nat → Nat) (o y n : Nat) : fm_sm (fm_u f o y) n + (if o < n then f o else 0) = fm_sm f n + (if o < n then y else 0) := by
  induction n with
  | zero => rfl
  | succ n ih =>
    rw [fm_smS, fm_smS]
    by_cases e : n = o
    · subst e
      rw [fm_us, if_pos (Nat.lt_succ_self n), if_pos (Nat.lt_succ_self n)]
      rw [if_neg (Nat.lt_irrefl n), if_neg (Nat.lt_irrefl n)] at ih
      omega
    · rw [fm_un e]
      by_cases g : o < n
      · rw [if_pos (show o < n + 1 by omega), if_pos (show o < n + 1 by omega)]
        rw [if_pos g, if_pos g] at ih
        omega
      · rw [if_neg (show ¬ o < n + 1 by omega), if_neg (show ¬ o < n + 1 by omega)]
        rw [if_neg g, if_neg g] at ih
        omega
/-- at most one place of the row of a number -/
theorem fm_sm_1 (k n : Nat) : fm_sm (fun j => if k = j then 1 else 0) n ≤ 1 := by
  have h : fm_sm (fun j => if k = j then 1 else 0) n = if k < n then 1 else 0 := by
    induction n with
    | zero => rfl
    | succ n ih =>
      rw [fm_smS, ih]
      by_cases e : k = n
      · rw [if_pos e, if_neg (show ¬ k < n by omega), if_pos (show k < n + 1 by omega)]
      · rw [if_neg e]
        by_cases g : k < n
        · rw [if_pos g, if_pos (show k < n + 1 by omega)]
        · rw [if_neg g, if_neg (show ¬ k < n + 1 by omega)]
  rw [h]
  by_cases g : k < n
  · rw [if_pos g]
    exact Nat.le_refl _
  · rw [if_neg g]
    exact Nat.zero_le _
/-- at most 12 pages are where some logical page is -/
theorem fm_w12 (pl : Nat → Nat) : fm_sm (fun j => fm_sm (fun p => if pl p = j then 1 else 0) 12) 32 ≤ 12 := by
  rw [fm_sm_swap (fun j p => if pl p = j then 1 else 0) 32 12]
  exact fm_sm_bd (fun p _ => fm_sm_1 (pl p) 32)
theorem fm_sm_4 (f : Nat → Nat) (n : Nat) : fm_sm (fun b => fm_sm (fun i => f (4 * b + i)) 4) n = fm_sm f (4 * n) := by
  induction n with
  | zero => rfl
  | succ n ih =>
    rw [fm_smS, ih]
    show fm_sm f (4 * n) + ((((0 + f (4 * n)) + f (4 * n + 1)) + f (4 * n + 2)) + f (4 * n + 3)) = fm_sm f (4 * n) + f (4 * n) + f (4 * n + 1) + f (4 * n + 2) + f (4 * n + 3)
    omega
/-! ===== the picture: c: how many pages of a block are written; lg, rn: a good page's logical page and number; pl: where a logical page is (32: nowhere); V: what it holds ===== -/
def fm_K (N : Nat) (lg rn pl : Nat → Nat) (a1 a3 a5 : Nat → Int32) : Prop :=
  1 ≤ N ∧ (∀ j, j < 32 → a1 j = 1 → lg j < 12 ∧ a3 j = nI (lg j) ∧ rn j < N ∧ a5 j = nI (rn j) ∧ pl (lg j) < 32 ∧ (j ≠ pl (lg j) → rn j < rn (pl (lg j)))) ∧
  (∀ p, p < 12 → pl p = 32 ∨ (pl p < 32 ∧ a1 (pl p) = 1 ∧ lg (pl p) = p))
def fm_P (pl : Nat → Nat) (a7 : Nat → Int32) : Prop := ∀ p, p < 12 → (pl p = 32 ∧ a7 p = -1) ∨ (pl p < 32 ∧ a7 p = nI (pl p))
def fm_V (V : Nat → Option Int32) (pl : Nat → Nat) (a2 a4 : Nat → Int32) : Prop :=
  ∀ p, p < 12 → (pl p = 32 ∧ V p = none) ∨ (pl p < 32 ∧ ((a4 (pl p) = 0 ∧ V p = some (a2 (pl p))) ∨ (a4 (pl p) = 1 ∧ V p = none)))
def fm_C (c : Nat → Nat) (a1 : Nat → Int32) : Prop := ∀ b, b < 8 → c b ≤ 4 ∧ ∀ i, i < 4 → (a1 (4 * b + i) = 0 ↔ c b ≤ i)
def fm_z (c : Nat → Nat) : Nat → Nat := fun b => if c b = 0 then 1 else 0
/-- how many blocks are free -/
def fm_fr (c : Nat → Nat) : Nat := fm_sm (fm_z c) 8
def fm_B (s : Nat) (c : Nat → Nat) (ob : Int32) : Prop :=
  1 ≤ s ∧ s ≤ 3 ∧ s ≤ fm_fr c ∧ ((ob = -1 ∧ ∀ b, b < 8 → c b = 0 ∨ c b = 4) ∨ ∃ o, o < 8 ∧ ob = nI o ∧ 0 < c o ∧ ∀ b, b < 8 → b ≠ o → c b = 0 ∨ c b = 4)
/-- the whole state matches -/
def fm_J (s N : Nat) (V : Nat → Option Int32) (ob : Int32) (a1 a2 a3 a4 a5 a7 : Nat → Int32) : Prop :=
  ∃ c lg rn pl : Nat → Nat, fm_K N lg rn pl a1 a3 a5 ∧ fm_P pl a7 ∧ fm_V V pl a2 a4 ∧ fm_C c a1 ∧ fm_B s c ob
/-- 1 for a valid page -/
def fm_v (lg pl : Nat → Nat) (a1 : Nat → Int32) (j : Nat) : Nat := if a1 j = 1 ∧ pl (lg j) = j then 1 else 0
/-- how many of a block's pages are valid -/
def fm_vb (lg pl : Nat → Nat) (a1 : Nat → Int32) (b : Nat) : Nat := fm_sm (fun i => fm_v lg pl a1 (4 * b + i)) 4
/-! free blocks counted -/
theorem fm_fr_u (c : Nat → Nat) {o : Nat} (x : Nat) (ho : o < 8) : fm_fr (fm_u c o x) + fm_z c o = fm_fr c + (if x = 0 then 1 else 0) := by
  have h := fm_sm_u (fm_z c) o (if x = 0 then 1 else 0) 8
  rw [if_pos ho, if_pos ho] at h
  have e : fm_fr (fm_u c o x) = fm_sm (fm_u (fm_z c) o (if x = 0 then 1 else 0)) 8 := by
    refine fm_sm_eq (fun i _ => ?_)
    by_cases g : i = o
    · rw [g, fm_us]
      show (if fm_u c o x o = 0 then 1 else 0) = _
      rw [fm_us]
    · rw [fm_un g]
      show (if fm_u c o x i = 0 then 1 else 0) = (if c i = 0 then 1 else 0)
      rw [fm_un g]
  rw [e]
  exact h
theorem fm_fr_ex {c : Nat → Nat} (h : 1 ≤ fm_fr c) : ∃ b, b < 8 ∧ c b = 0 := by
  refine Classical.byContradiction (fun g => ?_)
  have e : fm_fr c = fm_sm (fun _ => 0) 8 := fm_sm_eq (fun i hi => if_neg (fun z => g ⟨i, hi, z⟩))
  rw [fm_sm_0] at e
  omega
theorem fm_fr_nx {c : Nat → Nat} (h : fm_fr c ≤ 3) : ∃ b, b < 8 ∧ c b ≠ 0 := by
  refine Classical.byContradiction (fun g => ?_)
  have e : fm_fr c = fm_sm (fun _ => 1) 8 := fm_sm_eq (fun i hi => if_pos (Classical.byContradiction (fun z => g ⟨i, hi, z⟩)))
  have e2 : fm_sm (fun _ => 1) 8 = 8 := rfl
  omega
theorem fm_v_le (lg pl : Nat → Nat) (a1 : Nat → Int32) (j : Nat) : fm_v lg pl a1 j ≤ 1 := by
  unfold fm_v
  by_cases g : a1 j = 1 ∧ pl (lg j) = j
  · rw [if_pos g]
    exact Nat.le_refl _
  · rw [if_neg g]
    exact Nat.zero_le _
theorem fm_vb_le (lg pl : Nat → Nat) (a1 : Nat → Int32) (b : Nat) : fm_vb lg pl a1 b ≤ 4 := fm_sm_bd (fun i _ => fm_v_le lg pl a1 (4 * b + i))
/-- at most 12 pages are valid -/
theorem fm_v12 {N : Nat} {lg rn pl : Nat → Nat} {a1 a3 a5 : Nat → Int32} (k : fm_K N lg rn pl a1 a3 a5) : fm_sm (fm_vb lg pl a1) 8 ≤ 12 := by
  have e : fm_sm (fm_vb lg pl a1) 8 = fm_sm (fm_v lg pl a1) 32 := fm_sm_4 (fm_v lg pl a1) 8
  rw [e]
  refine Nat.le_trans (fm_sm_le (fun j hj => ?_)) (fm_w12 pl)
  unfold fm_v
  by_cases g : a1 j = 1 ∧ pl (lg j) = j
  · rw [if_pos g]
    have h := fm_sm_ge (f := fun p => if pl p = j then 1 else 0) (k.2.1 j hj g.1).1
    rw [if_pos g.2] at h
    exact h
  · rw [if_neg g]
    exact Nat.zero_le _
/-- where at most three blocks are free, the block with least that is valid has at most two -/
theorem fm_pig {c v : Nat → Nat} {m : Nat} (h : fm_sm v 8 ≤ 12) (hf : fm_fr c ≤ 3) (hall : ∀ b, b < 8 → c b ≠ 0 → v m ≤ v b) : v m ≤ 2 := by
  refine Classical.byContradiction (fun g => ?_)
  have h1 := fm_sm_le (f := fun _ => 3) (g := fun b => v b + (fm_z c b + (fm_z c b + fm_z c b))) (n := 8) (fun b hb => by
    show 3 ≤ v b + (fm_z c b + (fm_z c b + fm_z c b))
    by_cases e : c b = 0
    · have e2 : fm_z c b = 1 := if_pos e
      omega
    · have e2 := hall b hb e
      omega)
  rw [fm_sm_add v, fm_sm_add (fm_z c), fm_sm_add (fm_z c)] at h1
  have h2 : fm_sm (fun _ => 3) 8 = 24 := rfl
  have h3 : fm_sm (fm_z c) 8 ≤ 3 := hf
  omega
/-! ===== a page is filled ===== -/
theorem fm_plne {N : Nat} {lg rn pl : Nat → Nat} {a1 a3 a5 : Nat → Int32} (k : fm_K N lg rn pl a1 a3 a5) {t : Nat} (h0 : a1 t = 0) (ht : t < 32) {p : Nat} (hp : p < 12) : pl p ≠ t := by
  intro e
  rcases k.2.2 p hp with g | ⟨_, g, _⟩
  · omega
  · rw [e, h0] at g
    exact absurd g (by decide)
theorem fm_fillK {N : Nat} {lg rn pl : Nat → Nat} {a1 a3 a5 : Nat → Int32} (k : fm_K N lg rn pl a1 a3 a5) {t p : Nat} (ht : t < 32) (h0 : a1 t = 0) (hp : p < 12) :
    fm_K (N + 1) (fm_u lg t p) (fm_u rn t N) (fm_u pl p t) (upd a1 t 1) (upd a3 t (nI p)) (upd a5 t (nI N)) := by
  have hne : ∀ q, q < 12 → pl q ≠ t := fun q hq => fm_plne k h0 ht hq
  obtain ⟨k1, k2, k3⟩ := k
  refine ⟨by omega, fun j hj g => ?_, fun q hq => ?_⟩
  · by_cases e : j = t
    · rw [e, fm_us, fm_us, fm_us, pk_us, pk_us]
      exact ⟨hp, rfl, by omega, rfl, ht, fun z => absurd rfl z⟩
    · rw [pk_un e] at g
      obtain ⟨b1, b2, b3, b4, b5, b6⟩ := k2 j hj g
      rw [fm_un e, fm_un e, pk_un e, pk_un e]
      by_cases e2 : lg j = p
      · rw [e2, fm_us, fm_us]
        rw [e2] at b2
        exact ⟨hp, b2, by omega, b4, ht, fun _ => b3⟩
      · rw [fm_un e2, fm_un (hne (lg j) b1)]
        exact ⟨b1, b2, by omega, b4, b5, b6⟩
  · by_cases e : q = p
    · rw [e, fm_us, fm_us, pk_us]
      exact Or.inr ⟨ht, rfl, rfl⟩
    · rw [fm_un e, fm_un (hne q hq), pk_un (hne q hq)]
      exact k3 q hq
theorem fm_fillP {pl : Nat → Nat} {a7 : Nat → Int32} (h : fm_P pl a7) {t p : Nat} (ht : t < 32) : fm_P (fm_u pl p t) (upd a7 p (nI t)) := by
  intro q hq
  by_cases e : q = p
  · rw [e, fm_us, pk_us]
    exact Or.inr ⟨ht, rfl⟩
  · rw [fm_un e, pk_un e]
    exact h q hq
theorem fm_fillV {V : Nat → Option Int32} {pl : Nat → Nat} {a2 a4 : Nat → Int32} (h : fm_V V pl a2 a4) {t p : Nat} (ht : t < 32) (hne : ∀ q, q < 12 → pl q ≠ t) {x e : Int32} {y : Option Int32} (he : (e = 0 ∧ y = some x) ∨ (e = 1 ∧ y = none)) :
    fm_V (fm_u V p y) (fm_u pl p t) (upd a2 t x) (upd a4 t e) := by
  intro q hq
  by_cases g : q = p
  · rw [g, fm_us, fm_us, pk_us, pk_us]
    exact Or.inr ⟨ht, he⟩
  · rw [fm_un g, fm_un g, pk_un (hne q hq), pk_un (hne q hq)]
    exact h q hq
theorem fm_fillC {c : Nat → Nat} {a1 : Nat → Int32} (h : fm_C c a1) {o : Nat} (hc : c o < 4) {x : Int32} (hx : ¬ x = 0) : fm_C (fm_u c o (c o + 1)) (upd a1 (4 * o + c o) x) := by
  intro b hb
  obtain ⟨h1, h2⟩ := h b hb
  by_cases e : b = o
  · subst e
    rw [fm_us]
    refine ⟨by omega, fun i hi => ?_⟩
    by_cases g : i = c b
    · rw [g, pk_us]
      exact ⟨fun z => absurd z hx, fun z => absurd z (by omega)⟩
    · rw [pk_un (show 4 * b + i ≠ 4 * b + c b by omega), h2 i hi]
      omega
  · rw [fm_un e]
    refine ⟨h1, fun i hi => ?_⟩
    rw [pk_un (show 4 * b + i ≠ 4 * o + c o by omega)]
    exact h2 i hi
theorem fm_at0 {c : Nat → Nat} {a1 : Nat → Int32} (h : fm_C c a1) {o : Nat} (ho : o < 8) (hc : c o < 4) : a1 (4 * o + c o) = 0 := ((h o ho).2 (c o) hc).mpr (Nat.le_refl _)
/-! ===== pages that are no word on a logical page go ===== -/
theorem fm_dropK {N : Nat} {lg rn pl : Nat → Nat} {a1 a3 a5 b1 b3 b5 : Nat → Int32} (k : fm_K N lg rn pl a1 a3 a5)
    (h : ∀ j, j < 32 → (b1 j = a1 j ∧ b3 j = a3 j ∧ b5 j = a5 j) ∨ (¬ b1 j = 1 ∧ ∀ p, p < 12 → pl p ≠ j)) : fm_K N lg rn pl b1 b3 b5 := by
  obtain ⟨k1, k2, k3⟩ := k
  refine ⟨k1, fun j hj g => ?_, fun p hp => ?_⟩
  · rcases h j hj with ⟨e1, e3, e5⟩ | ⟨z, _⟩
    · rw [e3, e5]
      rw [e1] at g
      exact k2 j hj g
    · exact absurd g z
  · rcases k3 p hp with g | ⟨g1, g2, g3⟩
    · exact Or.inl g
    · rcases h (pl p) g1 with ⟨e1, _, _⟩ | ⟨_, z⟩
      · exact Or.inr ⟨g1, by rw [e1]; exact g2, g3⟩
      · exact absurd rfl (z p hp)
theorem fm_dropV {V : Nat → Option Int32} {pl : Nat → Nat} {a2 a4 : Nat → Int32} (h : fm_V V pl a2 a4) {t : Nat} (hne : ∀ q, q < 12 → pl q ≠ t) (x : Int32) : fm_V V pl (upd a2 t x) a4 := by
  intro q hq
  rw [pk_un (hne q hq)]
  exact h q hq
/-- a block is erased -/
theorem fm_eraseC {c : Nat → Nat} {a1 b1 : Nat → Int32} (h : fm_C c a1) {m : Nat} (hz : ∀ i, i < 4 → b1 (4 * m + i) = 0) (hn : ∀ j, j < 4 * m ∨ 4 * m + 4 ≤ j → b1 j = a1 j) : fm_C (fm_u c m 0) b1 := by
  intro b hb
  by_cases e : b = m
  · subst e
    rw [fm_us]
    exact ⟨by omega, fun i hi => ⟨fun _ => by omega, fun _ => hz i hi⟩⟩
  · rw [fm_un e]
    obtain ⟨h1, h2⟩ := h b hb
    refine ⟨h1, fun i hi => ?_⟩
    rw [hn (4 * b + i) (by omega)]
    exact h2 i hi
end
section
/-! ===== small numbers ===== -/
theorem fm_40 (b : Nat) : 4 * nI b = nI (4 * b) := pk_mul 4 b
theorem fm_43 (b : Nat) : 4 * nI b + 3 = nI (4 * b + 3) := by rw [fm_40]; exact nI_add (4 * b) 3
theorem fm_4 (b : Nat) : 4 * nI b + 4 = nI (4 * b + 4) := by rw [fm_40]; exact nI_add (4 * b) 4
theorem fm_b8 : ∀ i, i < 32 → (nI i).toInt8.toInt32 = nI i := by decide +kernel
theorem fm_nar {e : Int32} (h : e = 0 ∨ e = 1) : vp_nar .boolean e = e := by
  rcases h with h | h <;> rw [h] <;> rfl
theorem fm_m1 : (-1 : Int32) < 0 := by decide
theorem fm_1n0 : ¬ (1 : Int32) = 0 := by decide
/-! ===== what looks at blocks ===== -/
theorem fm_isErased {post : Int32 → Prop} {sp ob nn : Int32} {a1 a2 a3 a4 a5 a6 a7 : Nat → Int32} {c : Nat → Nat} {b : Nat} (hC : fm_C c a1) (hb : b < 8) (h1 : c b = 0 → post 1) (h0 : c b ≠ 0 → post 0) :
    wpX_isErased post (sp, ob, nn, a1, a2, a3, a4, a5, a6, a7) (nI b) := by
  obtain ⟨hc, hi⟩ := hC b hb
  refine nm_r (fm_40 b) ?_
  refine loop_0 (σ := Unit) (fun n d _ => wX_isErased_4 post (nI b) sp ob nn a1 a2 a3 a4 a5 a6 a7 n (nI (4 * b + d))) (fun d _ => 0 < d → c b = 0) 4 () (fun z => absurd z (by omega)) ?_ ?_
  · intro n _ h
    exact pk_le (4 * b + 4) (4 * b + 4) (fun _ => h1 (h (by omega))) (fun z => absurd z (by omega)) (fm_4 b) rfl (by omega) (by omega)
  · intro n d _ hd h hw
    refine pk_le (4 * b + 4) (4 * b + d) (fun z => absurd z (by omega)) (fun _ => ⟨pk_in (4 * b + d) 32 (by omega), ?_⟩) (fm_4 b) rfl (by omega) (by omega)
    rw [nI_clamp (show 4 * b + d < 2 ^ 31 by omega)]
    refine br_c (fun z => nm_r (nI_1 (4 * b + d)) (hw () (fun _ => ?_))) (fun z => h0 (fun g => z ((hi d hd).mpr (by omega))))
    have e := (hi d hd).mp z
    by_cases g : 0 < d
    · exact h g
    · omega
theorem fm_next {post : Int32 → Prop} {sp nn : Int32} {a1 a2 a3 a4 a5 a6 a7 : Nat → Int32} {c : Nat → Nat} {o : Nat} (hC : fm_C c a1) (ho : o < 8) (h1 : c o < 4 → post (nI (4 * o + c o))) (h0 : c o = 4 → post (-1)) :
    wpX_nextInBlock post (sp, nI o, nn, a1, a2, a3, a4, a5, a6, a7) := by
  obtain ⟨hc, hi⟩ := hC o ho
  refine br_t (nI_pos' (by omega)) (nm_r (fm_40 o) ?_)
  refine loop_0 (σ := Unit) (fun n d _ => wX_nextInBlock_16 post sp (nI o) nn a1 a2 a3 a4 a5 a6 a7 n (nI (4 * o + d))) (fun d _ => d ≤ c o) 4 () (Nat.zero_le _) ?_ ?_
  · intro n _ h
    exact pk_le (4 * o + 4) (4 * o + 4) (fun _ => h0 (Nat.le_antisymm hc h)) (fun z => absurd z (by omega)) (fm_4 o) rfl (by omega) (by omega)
  · intro n d _ hd h hw
    have h : d ≤ c o := h
    refine pk_le (4 * o + 4) (4 * o + d) (fun z => absurd z (by omega)) (fun _ => ⟨pk_in (4 * o + d) 32 (by omega), ?_⟩) (fm_4 o) rfl (by omega) (by omega)
    rw [nI_clamp (show 4 * o + d < 2 ^ 31 by omega)]
    refine br_c (fun z => ?_) (fun z => nm_r (nI_1 (4 * o + d)) (hw () ?_))
    · have e := (hi d hd).mp z
      have e2 : d = c o := by omega
      rw [e2]
      exact h1 (by omega)
    · show d + 1 ≤ c o
      have e : ¬ c o ≤ d := fun g => z ((hi d hd).mpr g)
      omega
theorem fm_next0 {post : Int32 → Prop} {sp nn : Int32} {a1 a2 a3 a4 a5 a6 a7 : Nat → Int32} (h : post (-1)) : wpX_nextInBlock post (sp, -1, nn, a1, a2, a3, a4, a5, a6, a7) :=
  br_f (by decide) h
theorem fm_free {post : Int32 → Prop} {sp ob nn : Int32} {a1 a2 a3 a4 a5 a6 a7 : Nat → Int32} {c : Nat → Nat} (hC : fm_C c a1) (h : post (nI (fm_fr c))) :
    wpX_freeBlocks post (sp, ob, nn, a1, a2, a3, a4, a5, a6, a7) := by
  refine loop_0 (σ := Nat) (fun n i k => wX_freeBlocks_4 post sp ob nn a1 a2 a3 a4 a5 a6 a7 n (nI k) (nI i)) (fun i k => k = fm_sm (fm_z c) i) 8 0 rfl ?_ ?_
  · intro n k hk
    refine pk_le 8 8 (fun _ => ?_) (fun z => absurd z (by omega))
    have hk : k = fm_sm (fm_z c) 8 := hk
    rw [hk]
    exact h
  · intro n i k hi hk hw
    have hk : k = fm_sm (fm_z c) i := hk
    refine pk_le 8 i (fun z => absurd z (by omega)) (fun _ => fm_isErased hC hi (fun g => br_f fm_1n0 (nm_r (nI_1 k) (nm_r (nI_1 i) (hw (k + 1) ?_)))) (fun g => br_t rfl (nm_r (nI_1 i) (hw k ?_))))
    · show k + 1 = fm_sm (fm_z c) i + fm_z c i
      have e : fm_z c i = 1 := if_pos g
      omega
    · show k = fm_sm (fm_z c) i + fm_z c i
      have e : fm_z c i = 0 := if_neg g
      omega
theorem fm_worn {post : Int32 → Prop} {sp ob nn : Int32} {a1 a2 a3 a4 a5 a6 a7 : Nat → Int32} {c : Nat → Nat} (hC : fm_C c a1) (hx : ∃ b, b < 8 ∧ c b = 0) (H : ∀ m, m < 8 → c m = 0 → post (nI m)) :
    wpX_leastWornFreeBlock post (sp, ob, nn, a1, a2, a3, a4, a5, a6, a7) := by
  refine loop_0 (σ := Int32) (fun n i x => wX_leastWornFreeBlock_4 post sp ob nn a1 a2 a3 a4 a5 a6 a7 n x (nI i)) (fun i x => (x = -1 ∧ ∀ b, b < i → c b ≠ 0) ∨ ∃ m, m < i ∧ c m = 0 ∧ x = nI m) 8 (-1) (Or.inl ⟨rfl, fun b hb => absurd hb (by omega)⟩) ?_ ?_
  · intro n x h
    refine pk_le 8 8 (fun _ => ?_) (fun z => absurd z (by omega))
    rcases h with ⟨_, h⟩ | ⟨m, h1, h2, h3⟩
    · obtain ⟨b, hb, e⟩ := hx
      exact absurd e (h b hb)
    · rw [h3]
      exact H m h1 h2
  · intro n i x hi h hw
    refine pk_le 8 i (fun z => absurd z (by omega)) (fun _ => fm_isErased hC hi (fun g => br_f fm_1n0 ?_) (fun g => br_t rfl (nm_r (nI_1 i) (hw x ?_))))
    · rcases h with ⟨h1, h⟩ | ⟨m, h1, h2, h3⟩
      · rw [h1]
        exact br_t fm_m1 (nm_r (nI_1 i) (hw (nI i) (Or.inr ⟨i, by omega, g, rfl⟩)))
      · rw [h3]
        refine br_f (nI_pos (by omega)) ⟨pk_in i 8 hi, pk_in m 8 (by omega), ?_⟩
        exact br_c (fun _ => nm_r (nI_1 i) (hw (nI m) (Or.inr ⟨m, by omega, h2, rfl⟩))) (fun _ => nm_r (nI_1 i) (hw (nI i) (Or.inr ⟨i, by omega, g, rfl⟩)))
    · rcases h with ⟨h1, h⟩ | ⟨m, h1, h2, h3⟩
      · exact Or.inl ⟨h1, lt_s h g⟩
      · exact Or.inr ⟨m, by omega, h2, h3⟩
/-! ===== what is valid ===== -/
theorem fm_isValid {post : Int32 → Prop} {sp ob nn : Int32} {a1 a2 a3 a4 a5 a6 a7 : Nat → Int32} {N : Nat} {lg rn pl : Nat → Nat} {j : Nat} (hK : fm_K N lg rn pl a1 a3 a5) (hP : fm_P pl a7) (hj : j < 32)
    (h1 : a1 j = 1 → pl (lg j) = j → post 1) (h0 : ¬ (a1 j = 1 ∧ pl (lg j) = j) → post 0) : wpX_isValid post (sp, ob, nn, a1, a2, a3, a4, a5, a6, a7) (nI j) := by
  refine ⟨pk_in j 32 hj, ?_⟩
  rw [nI_clamp (show j < 2 ^ 31 by omega)]
  refine br_c (fun g => ⟨pk_in j 32 hj, ?_⟩) (fun g => h0 (fun z => g z.1))
  obtain ⟨k1, k2, k3, k4, k5, k6⟩ := hK.2.1 j hj g
  rw [k2]
  refine ⟨pk_in (lg j) 12 k1, ?_⟩
  rw [nI_clamp (show lg j < 2 ^ 31 by omega)]
  rcases hP (lg j) k1 with ⟨e, _⟩ | ⟨_, e⟩
  · exact absurd e (by omega)
  · rw [e]
    exact pk_eq (pl (lg j)) j (fun z => h1 g z) (fun z => h0 (fun y => z y.2))
theorem fm_validIn {post : Int32 → Prop} {sp ob nn : Int32} {a1 a2 a3 a4 a5 a6 a7 : Nat → Int32} {N : Nat} {lg rn pl : Nat → Nat} {b : Nat} (hK : fm_K N lg rn pl a1 a3 a5) (hP : fm_P pl a7) (hb : b < 8)
    (h : post (nI (fm_vb lg pl a1 b))) : wpX_validIn post (sp, ob, nn, a1, a2, a3, a4, a5, a6, a7) (nI b) := by
  refine nm_r (fm_40 b) ?_
  refine loop_0 (σ := Nat) (fun n d k => wX_validIn_6 post (nI b) sp ob nn a1 a2 a3 a4 a5 a6 a7 n (nI k) (nI (4 * b + d))) (fun d k => k = fm_sm (fun i => fm_v lg pl a1 (4 * b + i)) d) 4 0 rfl ?_ ?_
  · intro n k hk
    refine pk_le (4 * b + 4) (4 * b + 4) (fun _ => ?_) (fun z => absurd z (by omega)) (fm_4 b) rfl (by omega) (by omega)
    have hk : k = fm_vb lg pl a1 b := hk
    rw [hk]
    exact h
  · intro n d k hd hk hw
    have hk : k = fm_sm (fun i => fm_v lg pl a1 (4 * b + i)) d := hk
    refine pk_le (4 * b + 4) (4 * b + d) (fun z => absurd z (by omega)) (fun _ => ?_) (fm_4 b) rfl (by omega) (by omega)
    refine fm_isValid hK hP (show 4 * b + d < 32 by omega) (fun g g2 => br_f fm_1n0 (nm_r (nI_1 k) (nm_r (nI_1 (4 * b + d)) (hw (k + 1) ?_)))) (fun g => br_t rfl (nm_r (nI_1 (4 * b + d)) (hw k ?_)))
    · show k + 1 = fm_sm (fun i => fm_v lg pl a1 (4 * b + i)) d + fm_v lg pl a1 (4 * b + d)
      have e : fm_v lg pl a1 (4 * b + d) = 1 := if_pos ⟨g, g2⟩
      omega
    · show k = fm_sm (fun i => fm_v lg pl a1 (4 * b + i)) d + fm_v lg pl a1 (4 * b + d)
      have e : fm_v lg pl a1 (4 * b + d) = 0 := if_neg g
      omega
theorem fm_least {post : Int32 → Prop} {sp ob nn : Int32} {a1 a2 a3 a4 a5 a6 a7 : Nat → Int32} {N : Nat} {c lg rn pl : Nat → Nat} (hK : fm_K N lg rn pl a1 a3 a5) (hP : fm_P pl a7) (hC : fm_C c a1) (hx : ∃ b, b < 8 ∧ c b ≠ 0)
    (H : ∀ m, m < 8 → c m ≠ 0 → (∀ b, b < 8 → c b ≠ 0 → fm_vb lg pl a1 m ≤ fm_vb lg pl a1 b) → post (nI m)) : wpX_leastValidBlock post (sp, ob, nn, a1, a2, a3, a4, a5, a6, a7) := by
  refine loop_0 (σ := Int32 × Int32) (fun n i x => wX_leastValidBlock_6 post sp ob nn a1 a2 a3 a4 a5 a6 a7 n x.1 x.2 (nI i))
    (fun i x => (x = (-1, 5) ∧ ∀ b, b < i → c b = 0) ∨ ∃ m, m < i ∧ c m ≠ 0 ∧ x = (nI m, nI (fm_vb lg pl a1 m)) ∧ ∀ b, b < i → c b ≠ 0 → fm_vb lg pl a1 m ≤ fm_vb lg pl a1 b) 8 (-1, 5) (Or.inl ⟨rfl, fun b hb => absurd hb (by omega)⟩) ?_ ?_
  · intro n x h
    refine pk_le 8 8 (fun _ => ?_) (fun z => absurd z (by omega))
    rcases h with ⟨_, h⟩ | ⟨m, h1, h2, h3, h4⟩
    · obtain ⟨b, hb, e⟩ := hx
      exact absurd (h b hb) e
    · rw [h3]
      exact H m h1 h2 h4
  · intro n i x hi h hw
    have hv := fm_vb_le lg pl a1 i
    refine pk_le 8 i (fun z => absurd z (by omega)) (fun _ => fm_isErased hC hi (fun g => br_f fm_1n0 (nm_r (nI_1 i) (hw x ?_))) (fun g => br_t rfl (fm_validIn hK hP hi ?_)))
    · rcases h with ⟨h1, h⟩ | ⟨m, h1, h2, h3, h4⟩
      · exact Or.inl ⟨h1, lt_s h g⟩
      · exact Or.inr ⟨m, by omega, h2, h3, lt_s h4 (fun z => absurd g z)⟩
    · rcases h with ⟨h1, h⟩ | ⟨m, h1, h2, h3, h4⟩
      · rw [h1]
        refine pk_lt 5 (fm_vb lg pl a1 i) (fun z => absurd z (by omega)) (fun _ => ?_)
        refine pk_eq (fm_vb lg pl a1 i) 5 (fun z => absurd z (by omega)) (fun _ => nm_r (nI_1 i) (hw (nI i, nI (fm_vb lg pl a1 i)) (Or.inr ⟨i, by omega, g, rfl, lt_s (fun b hb z => absurd (h b hb) z) (fun _ => Nat.le_refl _)⟩)))
      · have hm := fm_vb_le lg pl a1 m
        rw [h3]
        refine pk_lt (fm_vb lg pl a1 m) (fm_vb lg pl a1 i) (fun z => nm_r (nI_1 i) (hw (nI m, nI (fm_vb lg pl a1 m)) (Or.inr ⟨m, by omega, h2, rfl, lt_s h4 (fun _ => by omega)⟩))) (fun z => ?_)
        have new : ∀ b, b < i + 1 → c b ≠ 0 → fm_vb lg pl a1 i ≤ fm_vb lg pl a1 b := lt_s (fun b hb y => Nat.le_trans z (h4 b hb y)) (fun _ => Nat.le_refl _)
        refine pk_eq (fm_vb lg pl a1 i) (fm_vb lg pl a1 m) (fun y => ⟨pk_in i 8 hi, pk_in m 8 (by omega), ?_⟩) (fun y => nm_r (nI_1 i) (hw (nI i, nI (fm_vb lg pl a1 i)) (Or.inr ⟨i, by omega, g, rfl, new⟩)))
        exact br_c (fun _ => nm_r (nI_1 i) (hw (nI i, nI (fm_vb lg pl a1 i)) (Or.inr ⟨i, by omega, g, rfl, new⟩)))
          (fun _ => nm_r (nI_1 i) (hw (nI m, nI (fm_vb lg pl a1 m)) (Or.inr ⟨m, by omega, h2, rfl, lt_s h4 (fun _ => by omega)⟩)))
end
section
/-! ===== a page is written; a block is emptied; a fresh page ===== -/
theorem fm_fillPage {post : St2 → Prop} {sp ob nn : Int32} {a1 a2 a3 a4 a5 a6 a7 : Nat → Int32} {t p : Nat} {x e : Int32} (ht : t < 32) (hp : p < 12) (he : e = 0 ∨ e = 1)
    (H : post (sp, ob, nn + 1, upd a1 t 1, upd a2 t x, upd a3 t (nI p), upd a4 t e, upd a5 t nn, a6, upd a7 p (nI t))) :
    wpX_fillPage post (sp, ob, nn, a1, a2, a3, a4, a5, a6, a7) (nI t) (nI p) x e := by
  have ct : (nI t).toNatClampNeg = t := nI_clamp (by omega)
  have cp : (nI p).toNatClampNeg = p := nI_clamp (by omega)
  refine ⟨pk_in t 32 ht, nm_r (e' := upd a1 t 1) (by rw [ct]) ⟨pk_in t 32 ht, nm_r (e' := upd a2 t x) (by rw [ct]) ⟨pk_in t 32 ht, nm_r (e' := upd a3 t (nI p)) (by rw [ct, fm_b8 p (by omega)])
    ⟨pk_in t 32 ht, nm_r (e' := upd a4 t e) (by rw [ct, fm_nar he]) ⟨pk_in t 32 ht, nm_r (e' := upd a5 t nn) (by rw [ct]) (nm_e ⟨pk_in p 12 hp, nm_r (e' := upd a7 p (nI t)) (by rw [cp, fm_b8 t ht]) H⟩)⟩⟩⟩⟩⟩
/-- the victim's pages are marked erased -/
theorem fm_empty62 {post : St2 → Prop} {sp ob nn : Int32} {a1 a2 a3 a4 a5 a6 a7 : Nat → Int32} {m : Nat} (hm : m < 8)
    (H : ∀ b1 b6 : Nat → Int32, (∀ i, i < 4 → b1 (4 * m + i) = 0) → (∀ j, j < 4 * m ∨ 4 * m + 4 ≤ j → b1 j = a1 j) → post (sp, ob, nn, b1, a2, a3, a4, a5, b6, a7)) :
    ∃ fu, wX_empty_62 post (nI m) sp ob nn fu (nI (4 * m)) a1 a2 a3 a4 a5 a6 a7 := by
  refine loop_0 (σ := Nat → Int32) (fun n d b1 => wX_empty_62 post (nI m) sp ob nn n (nI (4 * m + d)) b1 a2 a3 a4 a5 a6 a7) (fun d b1 => (∀ i, i < d → b1 (4 * m + i) = 0) ∧ (∀ j, j < 4 * m ∨ 4 * m + 4 ≤ j → b1 j = a1 j)) 4 a1 ⟨fun i hi => absurd hi (by omega), fun _ _ => rfl⟩ ?_ ?_
  · intro n b1 h
    exact pk_le (4 * m + 4) (4 * m + 4) (fun _ => ⟨pk_in m 8 hm, pk_in m 8 hm, nm_e (H b1 _ h.1 h.2)⟩) (fun z => absurd z (by omega)) (fm_4 m) rfl (by omega) (by omega)
  · intro n d b1 hd h hw
    obtain ⟨g1, g2⟩ := h
    refine pk_le (4 * m + 4) (4 * m + d) (fun z => absurd z (by omega)) (fun _ => ⟨pk_in (4 * m + d) 32 (by omega), nm_r (e' := upd b1 (4 * m + d) 0) (by rw [nI_clamp (by omega)]) (nm_r (nI_1 (4 * m + d)) (hw _ ⟨?_, ?_⟩))⟩) (fm_4 m) rfl (by omega) (by omega)
    · intro i hi
      by_cases e : i = d
      · rw [e]
        exact pk_us
      · rw [pk_un (show 4 * m + i ≠ 4 * m + d by omega)]
        exact g1 i (by omega)
    · intro j hj
      rw [pk_un (show j ≠ 4 * m + d by omega)]
      exact g2 j hj
/-- the victim's valid pages move to the block that is being filled; q: how many turns are left -/
theorem fm_empty4 {post : St2 → Prop} {s m o N0 : Nat} {c0 : Nat → Nat} {f0 : Nat → Nat} {V : Nat → Option Int32} (hm : m < 8) (ho : o < 8) (hmo : o ≠ m) (hN0 : N0 < 2 ^ 30)
    (H : ∀ (N : Nat) (lg rn pl : Nat → Nat) (a1 a2 a3 a4 a5 a6 a7 : Nat → Int32), N ≤ N0 + 4 → fm_K N lg rn pl a1 a3 a5 → fm_P pl a7 → fm_V V pl a2 a4 → fm_C (fm_u (fm_u c0 o (fm_sm f0 4)) m 0) a1 → post (nI s, nI o, nI N, a1, a2, a3, a4, a5, a6, a7)) :
    ∀ (q d N : Nat) (lg rn pl : Nat → Nat) (a1 a2 a3 a4 a5 a6 a7 : Nat → Int32), d + q = 4 → N ≤ N0 + d → fm_K N lg rn pl a1 a3 a5 → fm_P pl a7 → fm_V V pl a2 a4 → fm_C (fm_u c0 o (fm_sm f0 d)) a1 → fm_sm f0 d ≤ d →
      (∀ i, d ≤ i → i < 4 → fm_v lg pl a1 (4 * m + i) = f0 i) → (∀ i, i < d → ∀ p, p < 12 → pl p ≠ 4 * m + i) →
      wX_empty_4 post (nI m) (q + 1) (nI (4 * m + d)) (nI s) (nI o) (nI N) a1 a2 a3 a4 a5 a6 a7 := by
  intro q
  induction q with
  | zero =>
    intro d N lg rn pl a1 a2 a3 a4 a5 a6 a7 hd hN hK hP hV hC hS hv hdone
    have e : d = 4 := by omega
    subst e
    refine pk_le (4 * m + 4) (4 * m + 4) (fun _ => nm_r (fm_40 m) (fm_empty62 hm (fun b1 b6 z1 z2 => ?_))) (fun z => absurd z (by omega)) (fm_4 m) rfl (by omega) (by omega)
    refine H N lg rn pl b1 a2 a3 a4 a5 b6 a7 hN (fm_dropK hK (fun j hj => ?_)) hP hV (fm_eraseC hC z1 z2)
    by_cases g : j < 4 * m ∨ 4 * m + 4 ≤ j
    · exact Or.inl ⟨z2 j g, rfl, rfl⟩
    · have e1 := z1 (j - 4 * m) (by omega)
      have e2 := hdone (j - 4 * m) (by omega)
      rw [show 4 * m + (j - 4 * m) = j by omega] at e1 e2
      exact Or.inr ⟨by rw [e1]; decide, e2⟩
  | succ q ih =>
    intro d N lg rn pl a1 a2 a3 a4 a5 a6 a7 hd hN hK hP hV hC hS hv hdone
    have hj : 4 * m + d < 32 := by omega
    have cj : (nI (4 * m + d)).toNatClampNeg = 4 * m + d := nI_clamp (by omega)
    refine pk_le (4 * m + 4) (4 * m + d) (fun z => absurd z (by omega)) (fun _ => ?_) (fm_4 m) rfl (by omega) (by omega)
    refine fm_isValid hK hP hj (fun g g2 => br_f fm_1n0 ?_) (fun g => br_t rfl (nm_r (nI_1 (4 * m + d)) ?_))
    · -- a valid page moves
      obtain ⟨k1, k2, k3, k4, k5, k6⟩ := hK.2.1 _ hj g
      have hc : fm_u c0 o (fm_sm f0 d) o = fm_sm f0 d := fm_us
      have ht0 : a1 (4 * o + fm_u c0 o (fm_sm f0 d) o) = 0 := fm_at0 hC ho (by omega)
      have ht : 4 * o + fm_u c0 o (fm_sm f0 d) o < 32 := by omega
      have hv1 : f0 d = 1 := by
        rw [← hv d (Nat.le_refl _) (by omega)]
        exact if_pos ⟨g, g2⟩
      have hV1 := hV _ k1
      rw [g2] at hV1
      have hV2 : (a4 (4 * m + d) = 0 ∧ V (lg (4 * m + d)) = some (a2 (4 * m + d))) ∨ (a4 (4 * m + d) = 1 ∧ V (lg (4 * m + d)) = none) := by
        rcases hV1 with ⟨z, _⟩ | ⟨_, z⟩
        · omega
        · exact z
      refine fm_next hC ho (fun _ => ⟨pk_in _ 32 hj, pk_in _ 32 hj, pk_in _ 32 hj, ?_⟩) (fun z => absurd z (by omega))
      rw [cj, k2]
      refine fm_fillPage ht k1 (by rcases hV2 with ⟨z, _⟩ | ⟨z, _⟩; exact Or.inl z; exact Or.inr z) (nm_r (nI_1 (4 * m + d)) ?_)
      rw [nI_1]
      have hC' := fm_fillC hC (o := o) (by omega) fm_1n0
      have ec : fm_u (fm_u c0 o (fm_sm f0 d)) o (fm_u c0 o (fm_sm f0 d) o + 1) = fm_u c0 o (fm_sm f0 (d + 1)) := by
        funext b
        rw [hc, fm_smS, hv1]
        by_cases e : b = o
        · rw [e, fm_us, fm_us]
        · rw [fm_un e, fm_un e, fm_un e]
      rw [ec] at hC'
      have hV' := fm_fillV hV ht (fun q hq => fm_plne hK ht0 ht hq) (p := lg (4 * m + d)) hV2
      rw [fm_uu rfl] at hV'
      have hne : ∀ i, i < 4 → 4 * m + i ≠ 4 * o + fm_u c0 o (fm_sm f0 d) o := fun i hi => by omega
      refine ih (d + 1) (N + 1) _ _ _ _ _ _ _ _ a6 _ (by omega) (by omega) (fm_fillK hK ht ht0 k1) (fm_fillP hP ht) hV' hC' (by rw [fm_smS]; omega) ?_ ?_
      · intro i hi hi4
        rw [← hv i (by omega) hi4]
        have ej := hne i hi4
        unfold fm_v
        rw [pk_un ej, fm_un ej]
        by_cases el : lg (4 * m + i) = lg (4 * m + d)
        · rw [el, fm_us, g2, if_neg (fun z => ej z.2.symm), if_neg (fun z => by have := z.2; omega)]
        · rw [fm_un el]
      · intro i hi p hp
        by_cases ep : p = lg (4 * m + d)
        · rw [ep, fm_us]
          exact fun z => hne i (by omega) z.symm
        · rw [fm_un ep]
          by_cases ei : i = d
          · rw [ei]
            intro z
            rcases hK.2.2 p hp with y | ⟨_, _, y⟩
            · omega
            · rw [z] at y
              exact ep y.symm
          · exact hdone i (by omega) p hp
    · -- a page that isn't valid stays
      have hv0 : f0 d = 0 := by
        rw [← hv d (Nat.le_refl _) (by omega)]
        exact if_neg g
      have es : fm_sm f0 (d + 1) = fm_sm f0 d := by rw [fm_smS, hv0]; rfl
      refine ih (d + 1) N lg rn pl a1 a2 a3 a4 a5 a6 a7 (by omega) (by omega) hK hP hV (by rw [es]; exact hC) (by rw [es]; omega) (fun i hi hi4 => hv i (by omega) hi4) ?_
      intro i hi p hp
      by_cases ei : i = d
      · rw [ei]
        intro z
        rcases hK.2.2 p hp with y | ⟨_, y1, y2⟩
        · omega
        · rw [z] at y1 y2
          exact g ⟨y1, by rw [y2]; exact z⟩
      · exact hdone i (by omega) p hp
theorem fm_emptyB {post : St2 → Prop} {s m o N : Nat} {c lg rn pl : Nat → Nat} {V : Nat → Option Int32} {a1 a2 a3 a4 a5 a6 a7 : Nat → Int32} (hm : m < 8) (ho : o < 8) (hmo : o ≠ m) (hN : N < 2 ^ 30)
    (hK : fm_K N lg rn pl a1 a3 a5) (hP : fm_P pl a7) (hV : fm_V V pl a2 a4) (hC : fm_C c a1) (hc : c o = 0)
    (H : ∀ (N' : Nat) (lg' rn' pl' : Nat → Nat) (b1 b2 b3 b4 b5 b6 b7 : Nat → Int32), N' ≤ N + 4 → fm_K N' lg' rn' pl' b1 b3 b5 → fm_P pl' b7 → fm_V V pl' b2 b4 → fm_C (fm_u (fm_u c o (fm_vb lg pl a1 m)) m 0) b1 → post (nI s, nI o, nI N', b1, b2, b3, b4, b5, b6, b7)) :
    wpX_empty post (nI s, nI o, nI N, a1, a2, a3, a4, a5, a6, a7) (nI m) := by
  refine nm_r (fm_40 m) ⟨4 + 1, ?_⟩
  exact fm_empty4 (f0 := fun i => fm_v lg pl a1 (4 * m + i)) hm ho hmo hN H 4 0 N lg rn pl a1 a2 a3 a4 a5 a6 a7 rfl (Nat.le_refl _) hK hP hV (by show fm_C (fm_u c o 0) a1; rw [fm_uu hc]; exact hC) (Nat.le_refl _) (fun _ _ _ => rfl) (fun i hi => absurd hi (by omega))
theorem fm_fresh58 {post : Int32 → St2 → Prop} {sp nn : Int32} {a1 a2 a3 a4 a5 a6 a7 : Nat → Int32} {c : Nat → Nat} {o : Nat} (hC : fm_C c a1) (ho : o < 8) (hc : c o < 4) (h : post (nI (4 * o + c o)) (sp, nI o, nn, a1, a2, a3, a4, a5, a6, a7)) :
    wX_freshPage_58 post sp (nI o) nn a1 a2 a3 a4 a5 a6 a7 := fm_next hC ho (fun _ => h) (fun z => absurd z (by omega))
/-- no room in the block that is being filled: all blocks are erased or full -/
theorem fm_fresh2 {post : Int32 → St2 → Prop} {s N : Nat} {ob : Int32} {c lg rn pl : Nat → Nat} {V : Nat → Option Int32} {a1 a2 a3 a4 a5 a6 a7 : Nat → Int32} (hN : N < 2 ^ 30)
    (hK : fm_K N lg rn pl a1 a3 a5) (hP : fm_P pl a7) (hV : fm_V V pl a2 a4) (hC : fm_C c a1) (hs1 : 1 ≤ s) (hs3 : s ≤ 3) (hf : s ≤ fm_fr c) (hb : ∀ b, b < 8 → c b = 0 ∨ c b = 4)
    (H : ∀ (N' o : Nat) (c lg rn pl : Nat → Nat) (b1 b2 b3 b4 b5 b6 b7 : Nat → Int32), N' ≤ N + 4 → fm_K N' lg rn pl b1 b3 b5 → fm_P pl b7 → fm_V V pl b2 b4 → fm_C c b1 → o < 8 → c o < 4 → fm_B s (fm_u c o (c o + 1)) (nI o) → post (nI (4 * o + c o)) (nI s, nI o, nI N', b1, b2, b3, b4, b5, b6, b7)) :
    wpX_freeBlocks (fun r_3 => (((r_3 ≤ nI s → (wX_freshPage_27 post 0 (nI s) ob (nI N) a1 a2 a3 a4 a5 a6 a7)) ∧ (¬ r_3 ≤ nI s → (wX_freshPage_27 post 1 (nI s) ob (nI N) a1 a2 a3 a4 a5 a6 a7))))) (nI s, ob, nI N, a1, a2, a3, a4, a5, a6, a7) := by
  have hf8 : fm_fr c ≤ 8 := fm_sm_bd (fun b _ => by
    show (if c b = 0 then 1 else 0) ≤ 1
    by_cases g : c b = 0
    · rw [if_pos g]; exact Nat.le_refl _
    · rw [if_neg g]; exact Nat.zero_le _)
  refine fm_free hC (pk_le (fm_fr c) s (fun z => ?_) (fun z => ?_))
  · refine br_t rfl (fm_least hK hP hC (fm_fr_nx (by omega)) (fun m hm hcm hmin => ?_))
    have hc4 : c m = 4 := by
      rcases hb m hm with y | y
      · exact absurd y hcm
      · exact y
    have hv2 : fm_vb lg pl a1 m ≤ 2 := fm_pig (c := c) (v := fm_vb lg pl a1) (fm_v12 hK) (by omega) hmin
    refine fm_worn hC (fm_fr_ex (by omega)) (fun o ho hco => br_t rfl ?_)
    have hom : o ≠ m := fun e => by rw [e] at hco; omega
    refine fm_emptyB hm ho hom hN hK hP hV hC hco (fun N' lg' rn' pl' b1 b2 b3 b4 b5 b6 b7 hN' hK' hP' hV' hC' => ?_)
    have e0 : fm_u (fm_u c o (fm_vb lg pl a1 m)) m 0 o = fm_vb lg pl a1 m := by rw [fm_un hom, fm_us]
    refine fm_fresh58 hC' ho (by omega) (H N' o _ lg' rn' pl' b1 b2 b3 b4 b5 b6 b7 hN' hK' hP' hV' hC' ho (by omega) ⟨hs1, hs3, ?_, Or.inr ⟨o, ho, rfl, by rw [fm_us]; omega, ?_⟩⟩)
    · have ec : fm_u (fm_u (fm_u c o (fm_vb lg pl a1 m)) m 0) o (fm_u (fm_u c o (fm_vb lg pl a1 m)) m 0 o + 1) = fm_u (fm_u c o (fm_vb lg pl a1 m + 1)) m 0 := by
        funext b
        rw [e0]
        by_cases g : b = o
        · rw [g, fm_us, fm_un hom, fm_us]
        · by_cases g2 : b = m
          · rw [g2, fm_un (Ne.symm hom), fm_us, fm_us]
          · rw [fm_un g, fm_un g2, fm_un g, fm_un g2, fm_un g]
      rw [ec]
      have q1 := fm_fr_u c (fm_vb lg pl a1 m + 1) ho
      have q2 := fm_fr_u (fm_u c o (fm_vb lg pl a1 m + 1)) 0 hm
      have q3 : fm_z c o = 1 := if_pos hco
      have q4 : fm_z (fm_u c o (fm_vb lg pl a1 m + 1)) m = 0 := if_neg (by rw [fm_un (Ne.symm hom)]; omega)
      rw [if_neg (by omega)] at q1
      rw [if_pos rfl] at q2
      omega
    · intro b hb8 hbo
      rw [fm_un hbo]
      by_cases g2 : b = m
      · rw [g2, fm_us]
        exact Or.inl rfl
      · rw [fm_un g2, fm_un hbo]
        exact hb b hb8
  · refine br_f fm_1n0 (fm_worn hC (fm_fr_ex (by omega)) (fun o ho hco => br_f fm_1n0 ?_))
    refine fm_fresh58 hC ho (by omega) (H N o c lg rn pl a1 a2 a3 a4 a5 a6 a7 (by omega) hK hP hV hC ho (by omega) ⟨hs1, hs3, ?_, Or.inr ⟨o, ho, rfl, by rw [fm_us]; omega, fun b hb8 hbo => by rw [fm_un hbo]; exact hb b hb8⟩⟩)
    have q1 := fm_fr_u c (c o + 1) ho
    have q3 : fm_z c o = 1 := if_pos hco
    rw [if_neg (by omega)] at q1
    omega
theorem fm_fresh {post : Int32 → St2 → Prop} {s N : Nat} {ob : Int32} {V : Nat → Option Int32} {a1 a2 a3 a4 a5 a6 a7 : Nat → Int32} (hN : N < 2 ^ 30) (hJ : fm_J s N V ob a1 a2 a3 a4 a5 a7)
    (H : ∀ (N' o : Nat) (c lg rn pl : Nat → Nat) (b1 b2 b3 b4 b5 b6 b7 : Nat → Int32), N' ≤ N + 4 → fm_K N' lg rn pl b1 b3 b5 → fm_P pl b7 → fm_V V pl b2 b4 → fm_C c b1 → o < 8 → c o < 4 → fm_B s (fm_u c o (c o + 1)) (nI o) → post (nI (4 * o + c o)) (nI s, nI o, nI N', b1, b2, b3, b4, b5, b6, b7)) :
    wpX_freshPage post (nI s, ob, nI N, a1, a2, a3, a4, a5, a6, a7) := by
  obtain ⟨c, lg, rn, pl, hK, hP, hV, hC, hs1, hs3, hf, hB⟩ := hJ
  rcases hB with ⟨hob, hb⟩ | ⟨o, ho, hob, hco, hb⟩
  · subst hob
    exact fm_next0 (br_t fm_m1 (fm_fresh2 hN hK hP hV hC hs1 hs3 hf hb H))
  · subst hob
    refine fm_next hC ho (fun g => br_f (nI_pos (by omega)) ?_) (fun g => br_t fm_m1 (fm_fresh2 hN hK hP hV hC hs1 hs3 hf (fun b hb8 => ?_) H))
    · refine H N o c lg rn pl a1 a2 a3 a4 a5 a6 a7 (by omega) hK hP hV hC ho g ⟨hs1, hs3, ?_, Or.inr ⟨o, ho, rfl, by rw [fm_us]; omega, fun b hb8 hbo => by rw [fm_un hbo]; exact hb b hb8 hbo⟩⟩
      have q1 := fm_fr_u c (c o + 1) ho
      rw [if_neg (by omega)] at q1
      have q3 : fm_z c o = 0 := if_neg (by omega)
      omega
    · by_cases e : b = o
      · rw [e]
        exact Or.inr g
      · exact hb b hb8 e
theorem fm_program {post : St2 → Prop} {s N p : Nat} {ob x e : Int32} {V : Nat → Option Int32} {y : Option Int32} {a1 a2 a3 a4 a5 a6 a7 : Nat → Int32} (hN : N < 2 ^ 30) (hJ : fm_J s N V ob a1 a2 a3 a4 a5 a7) (hp : p < 12) (he : (e = 0 ∧ y = some x) ∨ (e = 1 ∧ y = none))
    (H : ∀ (N' : Nat) (ob' : Int32) (b1 b2 b3 b4 b5 b6 b7 : Nat → Int32), N' ≤ N + 5 → fm_J s N' (fm_u V p y) ob' b1 b2 b3 b4 b5 b7 → post (nI s, ob', nI N', b1, b2, b3, b4, b5, b6, b7)) :
    wpX_program post (nI s, ob, nI N, a1, a2, a3, a4, a5, a6, a7) (nI p) x e := by
  refine fm_fresh hN hJ (fun N' o c lg rn pl b1 b2 b3 b4 b5 b6 b7 hN' hK hP hV hC ho hc hB => ?_)
  have ht : 4 * o + c o < 32 := by omega
  have ht0 := fm_at0 hC ho hc
  refine fm_fillPage ht hp (by rcases he with ⟨z, _⟩ | ⟨z, _⟩; exact Or.inl z; exact Or.inr z) ?_
  rw [nI_1]
  exact H (N' + 1) _ _ _ _ _ _ _ _ (by omega) ⟨_, _, _, _, fm_fillK hK ht ht0 hp, fm_fillP hP ht, fm_fillV hV ht (fun q hq => fm_plne hK ht0 ht hq) he, fm_fillC hC hc fm_1n0, hB⟩
end
section
/-! ===== after the power comes back ===== -/
/-- the pages below i read: where each logical page is as far as that -/
def fm_S (i : Nat) (lg rn pl : Nat → Nat) (a1 a7 : Nat → Int32) : Prop :=
  ∀ p, p < 12 → (pl p = 32 ∧ a7 p = -1 ∧ ∀ j, j < i → a1 j = 1 → lg j ≠ p) ∨ (pl p < i ∧ a7 p = nI (pl p) ∧ a1 (pl p) = 1 ∧ lg (pl p) = p ∧ ∀ j, j < i → a1 j = 1 → lg j = p → rn j ≤ rn (pl p))
/-- a page that isn't good, or is no newer, changes nothing -/
theorem fm_S_keep {i : Nat} {lg rn pl : Nat → Nat} {a1 a7 : Nat → Int32} (h : fm_S i lg rn pl a1 a7) (h32 : i < 32) (hi : a1 i = 1 → pl (lg i) < i ∧ rn i ≤ rn (pl (lg i))) : fm_S (i + 1) lg rn pl a1 a7 := by
  intro p hp
  rcases h p hp with ⟨h1, h2, h3⟩ | ⟨h1, h2, h3, h4, h5⟩
  · refine Or.inl ⟨h1, h2, lt_s h3 (fun z y => ?_)⟩
    have := (hi z).1
    rw [y] at this
    omega
  · refine Or.inr ⟨by omega, h2, h3, h4, lt_s h5 (fun z y => ?_)⟩
    have := (hi z).2
    rw [y] at this
    exact this
/-- a newer good page is the word on its logical page -/
theorem fm_S_new {i : Nat} {lg rn pl : Nat → Nat} {a1 a7 : Nat → Int32} (h : fm_S i lg rn pl a1 a7) (h1 : a1 i = 1) (hn : pl (lg i) = 32 ∨ rn (pl (lg i)) ≤ rn i) (h32 : i < 32) (hl : lg i < 12) : fm_S (i + 1) lg rn (fm_u pl (lg i) i) a1 (upd a7 (lg i) (nI i)) := by
  intro p hp
  by_cases e : p = lg i
  · rw [e, fm_us, pk_us]
    refine Or.inr ⟨by omega, rfl, h1, rfl, lt_s (fun j hj z y => ?_) (fun _ _ => Nat.le_refl _)⟩
    rcases h (lg i) hl with ⟨_, _, g⟩ | ⟨g1, _, _, _, g⟩
    · exact absurd y (g j hj z)
    · have := g j hj z y
      omega
  · rw [fm_un e, pk_un e]
    rcases h p hp with ⟨g1, g2, g3⟩ | ⟨g1, g2, g3, g4, g5⟩
    · exact Or.inl ⟨g1, g2, lt_s g3 (fun _ y => e y.symm)⟩
    · exact Or.inr ⟨by omega, g2, g3, g4, lt_s g5 (fun _ y => absurd y.symm e)⟩
/-- all pages read: the places are found again -/
theorem fm_S_end {N : Nat} {lg rn pl pl' : Nat → Nat} {a1 a3 a5 a7 : Nat → Int32} (hK : fm_K N lg rn pl a1 a3 a5) (h : fm_S 32 lg rn pl' a1 a7) : fm_P pl a7 := by
  intro p hp
  rcases hK.2.2 p hp with k | ⟨k1, k2, k3⟩
  · rcases h p hp with ⟨_, g2, _⟩ | ⟨g1, g2, g3, g4, g5⟩
    · exact Or.inl ⟨k, g2⟩
    · have := (hK.2.1 _ g1 g3).2.2.2.2.1
      rw [g4] at this
      omega
  · rcases h p hp with ⟨_, _, g3⟩ | ⟨g1, g2, g3, g4, g5⟩
    · exact absurd k3 (g3 (pl p) k1 k2)
    · have q1 := g5 (pl p) k1 k2 k3
      have q2 := (hK.2.1 _ g1 g3).2.2.2.2.2
      rw [g4] at q2
      have e : pl' p = pl p := by
        refine Classical.byContradiction (fun z => ?_)
        have := q2 z
        omega
      rw [e] at g2
      exact Or.inr ⟨k1, g2⟩
theorem fm_start129 {post : St2 → Prop} {sp nn : Int32} {a1 a2 a3 a4 a5 a6 a7 : Nat → Int32} {c : Nat → Nat} {o : Nat} (hC : fm_C c a1) (hO : ∀ b, b < 8 → b ≠ o → c b = 0 ∨ c b = 4)
    (H : ∀ ob : Int32, ((ob = -1 ∧ ∀ b, b < 8 → c b = 0 ∨ c b = 4) ∨ ∃ o, o < 8 ∧ ob = nI o ∧ 0 < c o ∧ ∀ b, b < 8 → b ≠ o → c b = 0 ∨ c b = 4) → post (sp, ob, nn, a1, a2, a3, a4, a5, a6, a7)) :
    ∃ fu, wX_startUp_129 post sp nn a1 a2 a3 a4 a5 a6 a7 fu 0 (-1) := by
  refine loop_0 (σ := Int32) (fun n i x => wX_startUp_129 post sp nn a1 a2 a3 a4 a5 a6 a7 n (nI i) x) (fun i x => (x = -1 ∧ ∀ b, b < i → c b = 0 ∨ c b = 4) ∨ ∃ m, m < i ∧ x = nI m ∧ c m ≠ 0 ∧ c m ≠ 4) 8 (-1) (Or.inl ⟨rfl, fun b hb => absurd hb (by omega)⟩) ?_ ?_
  · intro n x h
    refine pk_le 8 8 (fun _ => H x ?_) (fun z => absurd z (by omega))
    rcases h with h | ⟨m, h1, h2, h3, h4⟩
    · exact Or.inl h
    · refine Or.inr ⟨m, h1, h2, by omega, fun b hb hbm => hO b hb (fun e => ?_)⟩
      have e2 : m = o := by
        refine Classical.byContradiction (fun z => ?_)
        rcases hO m h1 z with y | y <;> omega
      omega
  · intro n i x hi h hw
    obtain ⟨hc4, hci⟩ := hC i hi
    have h3 := hci 3 (by omega)
    refine pk_le 8 i (fun z => absurd z (by omega)) (fun _ => fm_isErased hC hi (fun g => br_f fm_1n0 (nm_r (nI_1 i) (hw x ?_))) (fun g => br_t rfl ⟨pk_in (4 * i + 3) 32 (by omega) (fm_43 i), ?_⟩))
    · rcases h with ⟨h1, h⟩ | ⟨m, h1, h⟩
      · exact Or.inl ⟨h1, lt_s h (Or.inl g)⟩
      · exact Or.inr ⟨m, by omega, h⟩
    · rw [fm_43, nI_clamp (show 4 * i + 3 < 2 ^ 31 by omega)]
      refine br_c (fun z => nm_r (nI_1 i) (hw (nI i) (Or.inr ⟨i, by omega, rfl, g, ?_⟩))) (fun z => nm_r (nI_1 i) (hw x ?_))
      · have := h3.mp z
        omega
      · have e : c i = 4 := by
          have : ¬ c i ≤ 3 := fun y => z (h3.mpr y)
          omega
        rcases h with ⟨h1, h⟩ | ⟨m, h1, h⟩
        · exact Or.inl ⟨h1, lt_s h (Or.inr e)⟩
        · exact Or.inr ⟨m, by omega, h⟩
theorem fm_start96 {post : St2 → Prop} {J33 : Int32 → Int32 → (Nat → Int32) → (Nat → Int32) → (Nat → Int32) → (Nat → Int32) → (Nat → Int32) → (Nat → Int32) → (Nat → Int32) → Prop} {sp ob : Int32} {a1 a2 a3 a4 a5 a6 a7 : Nat → Int32} {i M N r : Nat} (hi : i < 32) (hN : N < 2 ^ 30) (hM : M ≤ N) (hr : a5 i = nI r) (hrN : r < N)
    (H : ∀ M', M ≤ M' → M' ≤ N → r < M' → J33 (nI (i + 1)) (nI M') a1 a2 a3 a4 a5 a6 a7) : wX_startUp_96 post J33 (nI i) sp ob (nI M) a1 a2 a3 a4 a5 a6 a7 := by
  refine ⟨pk_in i 32 hi, ?_⟩
  rw [nI_clamp (show i < 2 ^ 31 by omega), hr]
  exact pk_lt r M (fun z => nm_r (nI_1 i) (H M (Nat.le_refl _) hM z)) (fun z => ⟨pk_in i 32 hi, nm_r (nI_1 r) (nm_r (nI_1 i) (H (r + 1) (by omega) (by omega) (by omega)))⟩)
theorem fm_start33 {post : St2 → Prop} {sp ob : Int32} {a1 a2 a3 a4 a5 a6 a7 : Nat → Int32} {N : Nat} {lg rn pl : Nat → Nat} (hN : N < 2 ^ 30) (hK : fm_K N lg rn pl a1 a3 a5) (h7 : ∀ p, p < 12 → a7 p = -1)
    (H : ∀ (M : Nat) (b7 : Nat → Int32), M ≤ N → fm_K M lg rn pl a1 a3 a5 → fm_P pl b7 → ∃ fu, wX_startUp_129 post sp (nI M) a1 a2 a3 a4 a5 a6 b7 fu 0 ob) :
    ∃ fu, wX_startUp_33 post sp ob fu 0 1 a1 a2 a3 a4 a5 a6 a7 := by
  refine loop_0 (σ := Int32 × (Nat → Int32)) (fun n i s => wX_startUp_33 post sp ob n (nI i) s.1 a1 a2 a3 a4 a5 a6 s.2)
    (fun i s => ∃ (M : Nat) (pl' : Nat → Nat), s.1 = nI M ∧ 1 ≤ M ∧ M ≤ N ∧ (∀ j, j < i → a1 j = 1 → rn j < M) ∧ fm_S i lg rn pl' a1 s.2) 32 (1, a7)
    ⟨1, fun _ => 32, rfl, Nat.le_refl _, hK.1, fun j hj => absurd hj (by omega), fun p hp => Or.inl ⟨rfl, h7 p hp, fun j hj => absurd hj (by omega)⟩⟩ ?_ ?_
  · intro n s h
    obtain ⟨x, b7⟩ := s
    obtain ⟨M, pl', e, h1, h2, h3, h4⟩ := h
    have e : x = nI M := e
    subst e
    refine pk_le 32 32 (fun _ => H M b7 h2 ⟨h1, fun j hj g => ?_, hK.2.2⟩ (fm_S_end hK h4)) (fun z => absurd z (by omega))
    obtain ⟨k1, k2, k3, k4, k5, k6⟩ := hK.2.1 j hj g
    exact ⟨k1, k2, h3 j hj g, k4, k5, k6⟩
  · intro n i s hi h hw
    obtain ⟨x, b7⟩ := s
    obtain ⟨M, pl', e, h1, h2, h3, h4⟩ := h
    have e : x = nI M := e
    subst e
    have h4 : fm_S i lg rn pl' a1 b7 := h4
    have ci : (nI i).toNatClampNeg = i := nI_clamp (by omega)
    refine pk_le 32 i (fun z => absurd z (by omega)) (fun _ => ⟨pk_in i 32 hi, ?_⟩)
    rw [ci]
    refine br_c (fun g => ⟨pk_in i 32 hi, ?_⟩) (fun g => nm_r (nI_1 i) (hw (nI M, b7) ⟨M, pl', rfl, h1, h2, lt_s h3 (fun z => absurd z g), fm_S_keep h4 hi (fun z => absurd z g)⟩))
    obtain ⟨k1, k2, k3, k4, k5, k6⟩ := hK.2.1 i hi g
    have cl : (nI (lg i)).toNatClampNeg = lg i := nI_clamp (by omega)
    refine nm_r k2 ⟨pk_in (lg i) 12 k1, ?_⟩
    rw [cl]
    dsimp only
    have new : (pl' (lg i) = 32 ∨ rn (pl' (lg i)) ≤ rn i) → wX_startUp_88 post (wX_startUp_33 post sp ob n) (nI i) (nI (lg i)) sp ob (nI M) a1 a2 a3 a4 a5 a6 b7 := fun y =>
      ⟨pk_in (lg i) 12 k1, nm_r (e' := upd b7 (lg i) (nI i)) (by rw [cl, fm_b8 i hi]) (fm_start96 hi hN h2 k4 k3 (fun M' m1 m2 m3 => hw (nI M', upd b7 (lg i) (nI i)) ⟨M', _, rfl, by omega, m2, lt_s (fun j hj z => Nat.lt_of_lt_of_le (h3 j hj z) m1) (fun _ => m3), fm_S_new h4 g y hi k1⟩))⟩
    rcases h4 (lg i) k1 with ⟨g1, g2, g3⟩ | ⟨g1, g2, g3, g4, g5⟩
    · rw [g2]
      exact br_t fm_m1 (new (Or.inl g1))
    · obtain ⟨q1, q2, q3, q4, q5, q6⟩ := hK.2.1 (pl' (lg i)) (by omega) g3
      rw [g2]
      refine br_f (nI_pos (by omega)) ⟨pk_in i 32 hi, pk_in (lg i) 12 k1, pk_in (pl' (lg i)) 32 (by omega), ?_⟩
      rw [nI_clamp (show pl' (lg i) < 2 ^ 31 by omega), k4, q4]
      refine pk_le (rn i) (rn (pl' (lg i))) (fun z => ?_) (fun z => new (Or.inr (by omega)))
      exact fm_start96 hi hN h2 k4 k3 (fun M' m1 m2 m3 => hw (nI M', b7) ⟨M', pl', rfl, by omega, m2, lt_s (fun j hj z => Nat.lt_of_lt_of_le (h3 j hj z) m1) (fun _ => m3), fm_S_keep h4 hi (fun _ => ⟨g1, z⟩)⟩)
theorem fm_startUp {post : St2 → Prop} {s N o : Nat} {ob nn : Int32} {a1 a2 a3 a4 a5 a6 a7 : Nat → Int32} {c lg rn pl : Nat → Nat} (hN : N < 2 ^ 30) (hK : fm_K N lg rn pl a1 a3 a5) (hC : fm_C c a1) (hO : ∀ b, b < 8 → b ≠ o → c b = 0 ∨ c b = 4) (hs1 : 1 ≤ s) (hs3 : s ≤ 3) (hf : s ≤ fm_fr c)
    (H : ∀ (M : Nat) (ob' : Int32) (b7 : Nat → Int32), M ≤ N → fm_K M lg rn pl a1 a3 a5 → fm_P pl b7 → fm_B s c ob' → post (nI s, ob', nI M, a1, a2, a3, a4, a5, a6, b7)) :
    wpX_startUp post (nI s, ob, nn, a1, a2, a3, a4, a5, a6, a7) := by
  refine loop_0 (σ := Nat → Int32) (fun n i b7 => wX_startUp_12 post (nI s) (-1) 1 n (nI i) a1 a2 a3 a4 a5 a6 b7) (fun i b7 => ∀ p, p < i → b7 p = -1) 12 a7 (fun p hp => absurd hp (by omega)) ?_ ?_
  · intro n b7 h
    exact pk_le 12 12 (fun _ => fm_start33 hN hK h (fun M d7 hM hK' hP => fm_start129 hC hO (fun ob' hB => H M ob' d7 hM hK' hP ⟨hs1, hs3, hf, hB⟩))) (fun z => absurd z (by omega))
  · intro n i b7 hi h hw
    refine pk_le 12 i (fun z => absurd z (by omega)) (fun _ => ⟨pk_in i 12 hi, nm_r (e' := upd b7 i (-1)) (by rw [nI_clamp (by omega)]) (nm_r (nI_1 i) (hw _ (lt_s (fun p hp => ?_) pk_us)))⟩)
    rw [pk_un (by omega)]
    exact h p hp
end
section
/-! ===== what looks at a logical page ===== -/
theorem fm_isPage {post : Int32 → Prop} {sp ob nn : Int32} {a1 a2 a3 a4 a5 a6 a7 : Nat → Int32} {p : Nat} (hp : p < 12) (h : post 1) : wpX_isPage post (sp, ob, nn, a1, a2, a3, a4, a5, a6, a7) (nI p) :=
  br_f (nI_pos (by omega)) (br_f (nI_nlt (a := 11) (b := p) (by omega) (by omega)) h)
theorem fm_has {post : Int32 → Prop} {sp ob nn : Int32} {a1 a2 a3 a4 a5 a6 a7 : Nat → Int32} {V : Nat → Option Int32} {pl : Nat → Nat} {p : Nat} (hP : fm_P pl a7) (hV : fm_V V pl a2 a4) (hp : p < 12) (h1 : ∀ v, V p = some v → post 1) (h0 : V p = none → post 0) :
    wpX_has post (sp, ob, nn, a1, a2, a3, a4, a5, a6, a7) (nI p) := by
  unfold wpX_has
  refine fm_isPage hp (br_f fm_1n0 ⟨pk_in p 12 hp, ?_⟩)
  rw [nI_clamp (show p < 2 ^ 31 by omega)]
  rcases hP p hp with ⟨e, e7⟩ | ⟨e, e7⟩
  · rw [e7]
    refine br_t fm_m1 (h0 ?_)
    rcases hV p hp with ⟨_, g⟩ | ⟨g, _⟩
    · exact g
    · omega
  · rw [e7]
    refine br_f (nI_pos (by omega)) ⟨pk_in p 12 hp, pk_in (pl p) 32 e, ?_⟩
    rw [nI_clamp (show pl p < 2 ^ 31 by omega)]
    rcases hV p hp with ⟨g, _⟩ | ⟨_, ⟨g1, g2⟩ | ⟨g1, g2⟩⟩
    · omega
    · exact br_t g1 (h1 _ g2)
    · exact br_f (by rw [g1]; exact fm_1n0) (h0 g2)
theorem fm_read {post : Int32 → Prop} {sp ob nn : Int32} {a1 a2 a3 a4 a5 a6 a7 : Nat → Int32} {V : Nat → Option Int32} {pl : Nat → Nat} {p : Nat} (hP : fm_P pl a7) (hV : fm_V V pl a2 a4) (hp : p < 12) (h1 : ∀ v, V p = some v → post v) (h0 : V p = none → post 0) :
    wpX_read post (sp, ob, nn, a1, a2, a3, a4, a5, a6, a7) (nI p) := by
  unfold wpX_read
  refine fm_has hP hV hp (fun v hv => br_f fm_1n0 ⟨pk_in p 12 hp, ?_⟩) (fun hv => br_t rfl (h0 hv))
  rw [nI_clamp (show p < 2 ^ 31 by omega)]
  rcases hV p hp with ⟨_, g⟩ | ⟨e, ⟨g1, g2⟩ | ⟨g1, g2⟩⟩
  · rw [g] at hv
    exact absurd hv.symm (Option.some_ne_none v)
  · rcases hP p hp with ⟨e', _⟩ | ⟨_, e7⟩
    · omega
    · rw [e7]
      refine ⟨pk_in (pl p) 32 e, ?_⟩
      rw [nI_clamp (show pl p < 2 ^ 31 by omega)]
      exact h1 _ g2
  · rw [g2] at hv
    exact absurd hv.symm (Option.some_ne_none v)
theorem fm_hasJ {post : Int32 → Prop} {s N : Nat} {sp ob ob' nn : Int32} {a1 a2 a3 a4 a5 a6 a7 : Nat → Int32} {V : Nat → Option Int32} {p : Nat} (hJ : fm_J s N V ob' a1 a2 a3 a4 a5 a7) (hp : p < 12) (h1 : ∀ v, V p = some v → post 1) (h0 : V p = none → post 0) :
    wpX_has post (sp, ob, nn, a1, a2, a3, a4, a5, a6, a7) (nI p) := by
  obtain ⟨c, lg, rn, pl, _, hP, hV, _⟩ := hJ
  exact fm_has hP hV hp h1 h0
theorem fm_hasA {post : Int32 → Prop} {s N : Nat} {sp ob ob' nn : Int32} {a1 a2 a3 a4 a5 a6 a7 : Nat → Int32} {V : Nat → Option Int32} {p : Nat} (hJ : fm_J s N V ob' a1 a2 a3 a4 a5 a7) (hp : p < 12) (h : ∀ r, post r) :
    wpX_has post (sp, ob, nn, a1, a2, a3, a4, a5, a6, a7) (nI p) := fm_hasJ hJ hp (fun _ _ => h 1) (fun _ => h 0)
theorem fm_readJ {post : Int32 → Prop} {s N : Nat} {sp ob ob' nn : Int32} {a1 a2 a3 a4 a5 a6 a7 : Nat → Int32} {V : Nat → Option Int32} {p : Nat} (hJ : fm_J s N V ob' a1 a2 a3 a4 a5 a7) (hp : p < 12) (h1 : ∀ v, V p = some v → post v) (h0 : V p = none → post 0) :
    wpX_read post (sp, ob, nn, a1, a2, a3, a4, a5, a6, a7) (nI p) := by
  obtain ⟨c, lg, rn, pl, _, hP, hV, _⟩ := hJ
  exact fm_read hP hV hp h1 h0
theorem fm_readA {post : Int32 → Prop} {s N : Nat} {sp ob ob' nn : Int32} {a1 a2 a3 a4 a5 a6 a7 : Nat → Int32} {V : Nat → Option Int32} {p : Nat} (hJ : fm_J s N V ob' a1 a2 a3 a4 a5 a7) (hp : p < 12) (h : ∀ r, post r) :
    wpX_read post (sp, ob, nn, a1, a2, a3, a4, a5, a6, a7) (nI p) := fm_readJ hJ hp (fun v _ => h v) (fun _ => h 0)
/-- the law's sum -/
def fm_sumV (V : Nat → Option Int32) : Nat → Int32
  | 0 => 0
  | n + 1 => 31 * fm_sumV V n + (match V n with | some v => 2 * v + 1 | none => 0)
theorem fm_sum {post : Int32 → Prop} {s N : Nat} {sp ob ob' nn : Int32} {a1 a2 a3 a4 a5 a6 a7 : Nat → Int32} {V : Nat → Option Int32} (hJ : fm_J s N V ob' a1 a2 a3 a4 a5 a7) (h : post (fm_sumV V 12)) :
    wpL_sum post (sp, ob, nn, a1, a2, a3, a4, a5, a6, a7) := by
  refine loop_0 (σ := Int32) (fun n i x => wL_sum_4 post sp ob nn a1 a2 a3 a4 a5 a6 a7 n x (nI i)) (fun i x => x = fm_sumV V i) 12 0 rfl ?_ ?_
  · intro n x hx
    refine pk_le 12 12 (fun _ => ?_) (fun z => absurd z (by omega))
    have hx : x = fm_sumV V 12 := hx
    rw [hx]
    exact h
  · intro n i x hi hx hw
    have hx : x = fm_sumV V i := hx
    have some_ : ∀ v, V i = some v → 31 * x + (2 * v + 1) = fm_sumV V (i + 1) := by
      intro v hv
      show _ = 31 * fm_sumV V i + (match V i with | some v => 2 * v + 1 | none => 0)
      rw [hv, hx]
    have none_ : V i = none → 31 * x + 0 = fm_sumV V (i + 1) := by
      intro hv
      show _ = 31 * fm_sumV V i + (match V i with | some v => 2 * v + 1 | none => 0)
      rw [hv, hx]
    refine pk_le 12 i (fun z => absurd z (by omega)) (fun _ => fm_hasJ hJ hi (fun v hv => br_f fm_1n0 (fm_readJ hJ hi (fun v2 hv2 => nm_e (nm_r (nI_1 i) (hw _ (some_ v2 hv2)))) (fun z => ?_))) (fun hv => br_t rfl (nm_e (nm_r (nI_1 i) (hw _ (none_ hv))))))
    rw [hv] at z
    exact absurd z (Option.some_ne_none v)
/-- how many are used -/
def fm_usedV (V : Nat → Option Int32) : Nat → Int32
  | 0 => 0
  | n + 1 => match V n with | some _ => fm_usedV V n + 1 | none => fm_usedV V n
theorem fm_used {post : Int32 → Prop} {s N : Nat} {sp ob ob' nn : Int32} {a1 a2 a3 a4 a5 a6 a7 : Nat → Int32} {V : Nat → Option Int32} (hJ : fm_J s N V ob' a1 a2 a3 a4 a5 a7) (h : post (fm_usedV V 12)) :
    wpX_used post (sp, ob, nn, a1, a2, a3, a4, a5, a6, a7) := by
  refine loop_0 (σ := Int32) (fun n i x => wX_used_4 post sp ob nn a1 a2 a3 a4 a5 a6 a7 n x (nI i)) (fun i x => x = fm_usedV V i) 12 0 rfl ?_ ?_
  · intro n x hx
    refine pk_le 12 12 (fun _ => ?_) (fun z => absurd z (by omega))
    have hx : x = fm_usedV V 12 := hx
    rw [hx]
    exact h
  · intro n i x hi hx hw
    have hx : x = fm_usedV V i := hx
    have some_ : ∀ v, V i = some v → x + 1 = fm_usedV V (i + 1) := by
      intro v hv
      show _ = (match V i with | some _ => fm_usedV V i + 1 | none => fm_usedV V i)
      rw [hv, hx]
    have none_ : V i = none → x = fm_usedV V (i + 1) := by
      intro hv
      show _ = (match V i with | some _ => fm_usedV V i + 1 | none => fm_usedV V i)
      rw [hv, hx]
    exact pk_le 12 i (fun z => absurd z (by omega)) (fun _ => fm_hasJ hJ hi (fun v hv => br_f fm_1n0 (nm_e (nm_r (nI_1 i) (hw _ (some_ v hv))))) (fun hv => br_t rfl (nm_r (nI_1 i) (hw _ (none_ hv)))))
/-! ===== calls that write ===== -/
theorem fm_write {post : Int32 → St2 → Prop} {s N p : Nat} {ob x : Int32} {V : Nat → Option Int32} {a1 a2 a3 a4 a5 a6 a7 : Nat → Int32} (hN : N < 2 ^ 30) (hJ : fm_J s N V ob a1 a2 a3 a4 a5 a7) (hp : p < 12)
    (H : ∀ (r : Int32) (N' : Nat) (ob' : Int32) (b1 b2 b3 b4 b5 b6 b7 : Nat → Int32), ¬ r < 0 → N' ≤ N + 5 → fm_J s N' (fm_u V p (some x)) ob' b1 b2 b3 b4 b5 b7 → post r (nI s, ob', nI N', b1, b2, b3, b4, b5, b6, b7)) :
    wpX_write post (nI s, ob, nI N, a1, a2, a3, a4, a5, a6, a7) (nI p) x := by
  unfold wpX_write
  exact fm_isPage hp (br_f fm_1n0 (fm_hasJ hJ hp
    (fun _ _ => br_f fm_1n0 (fm_program hN hJ hp (Or.inl ⟨rfl, rfl⟩) (fun N' ob' b1 b2 b3 b4 b5 b6 b7 h1 h2 => H 1 N' ob' b1 b2 b3 b4 b5 b6 b7 (by decide) h1 h2)))
    (fun _ => br_t rfl (fm_program hN hJ hp (Or.inl ⟨rfl, rfl⟩) (fun N' ob' b1 b2 b3 b4 b5 b6 b7 h1 h2 => H 0 N' ob' b1 b2 b3 b4 b5 b6 b7 (by decide) h1 h2)))))
theorem fm_trim {post : Int32 → St2 → Prop} {s N p : Nat} {ob : Int32} {V : Nat → Option Int32} {a1 a2 a3 a4 a5 a6 a7 : Nat → Int32} (hN : N < 2 ^ 30) (hJ : fm_J s N V ob a1 a2 a3 a4 a5 a7) (hp : p < 12)
    (H : ∀ (r : Int32) (N' : Nat) (V' : Nat → Option Int32) (ob' : Int32) (b1 b2 b3 b4 b5 b6 b7 : Nat → Int32), N' ≤ N + 5 → (∀ k, k ≠ p → V' k = V k) → fm_J s N' V' ob' b1 b2 b3 b4 b5 b7 → post r (nI s, ob', nI N', b1, b2, b3, b4, b5, b6, b7)) :
    wpX_trim post (nI s, ob, nI N, a1, a2, a3, a4, a5, a6, a7) (nI p) := by
  unfold wpX_trim
  exact fm_isPage hp (br_f fm_1n0 (fm_hasJ hJ hp
    (fun _ _ => br_f fm_1n0 (fm_program hN hJ hp (Or.inr ⟨rfl, rfl⟩) (fun N' ob' b1 b2 b3 b4 b5 b6 b7 h1 h2 => H 1 N' _ ob' b1 b2 b3 b4 b5 b6 b7 h1 (fun k hk => fm_un hk) h2)))
    (fun _ => br_t rfl (H 0 N V ob a1 a2 a3 a4 a5 a6 a7 (by omega) (fun _ _ => rfl) hJ))))
theorem fm_replace {post : St2 → Prop} {s N p : Nat} {ob x e : Int32} {V : Nat → Option Int32} {a1 a2 a3 a4 a5 a6 a7 : Nat → Int32} (hN : N < 2 ^ 30) (hJ : fm_J s N V ob a1 a2 a3 a4 a5 a7) (hp : p < 12)
    (H : ∀ (N' : Nat) (V' : Nat → Option Int32) (ob' : Int32) (b1 b2 b3 b4 b5 b6 b7 : Nat → Int32), N' ≤ N + 5 → (∀ k, k ≠ p → V' k = V k) → fm_J s N' V' ob' b1 b2 b3 b4 b5 b7 → post (nI s, ob', nI N', b1, b2, b3, b4, b5, b6, b7)) :
    wpX_replace post (nI s, ob, nI N, a1, a2, a3, a4, a5, a6, a7) (nI p) x e :=
  br_c (fun _ => fm_trim hN hJ hp (fun _ N' V' ob' b1 b2 b3 b4 b5 b6 b7 h1 h2 h3 => H N' V' ob' b1 b2 b3 b4 b5 b6 b7 h1 h2 h3))
    (fun _ => fm_program hN hJ hp (Or.inl ⟨rfl, rfl⟩) (fun N' ob' b1 b2 b3 b4 b5 b6 b7 h1 h2 => H N' _ ob' b1 b2 b3 b4 b5 b6 b7 h1 (fun k hk => fm_un hk) h2))
theorem fm_exchange {post : Int32 → St2 → Prop} {s N p q : Nat} {ob : Int32} {V : Nat → Option Int32} {a1 a2 a3 a4 a5 a6 a7 : Nat → Int32} (hN : N < 2 ^ 29) (hJ : fm_J s N V ob a1 a2 a3 a4 a5 a7) (hp : p < 12) (hq : q < 12)
    (H : ∀ (r : Int32) (N' : Nat) (V' : Nat → Option Int32) (ob' : Int32) (b1 b2 b3 b4 b5 b6 b7 : Nat → Int32), N' ≤ N + 10 → (∀ k, k ≠ p → k ≠ q → V' k = V k) → fm_J s N' V' ob' b1 b2 b3 b4 b5 b7 → post r (nI s, ob', nI N', b1, b2, b3, b4, b5, b6, b7)) :
    wpX_exchange post (nI s, ob, nI N, a1, a2, a3, a4, a5, a6, a7) (nI p) (nI q) := by
  unfold wpX_exchange
  refine fm_isPage hp (br_f fm_1n0 (fm_isPage hq (br_f fm_1n0 (fm_hasA hJ hp (fun r5 => fm_hasA hJ hq (fun r6 => fm_readA hJ hp (fun r7 => fm_readA hJ hq (fun r8 => ?_))))))))
  refine fm_replace (by omega) hJ hp (fun N1 V1 ob1 b1 b2 b3 b4 b5 b6 b7 h1 h2 h3 => ?_)
  refine fm_replace (by omega) h3 hq (fun N2 V2 ob2 d1 d2 d3 d4 d5 d6 d7 g1 g2 g3 => ?_)
  have fin : ∀ r, post r (nI s, ob2, nI N2, d1, d2, d3, d4, d5, d6, d7) := fun r => H r N2 V2 ob2 d1 d2 d3 d4 d5 d6 d7 (by omega) (fun k hk hk2 => by rw [g2 k hk2, h2 k hk]) g3
  exact br_c (fun _ => br_c (fun _ => fin _) (fun _ => fin _)) (fun _ => br_c (fun _ => fin _) (fun _ => fin _))
theorem fm_fill48 {post : Int32 → St2 → Prop} {s N0 q r : Nat} {x4 x5 : Int32} {V : Nat → Option Int32} (hN : N0 < 2 ^ 29) (hr : r < 12)
    (H : ∀ (N' : Nat) (V' : Nat → Option Int32) (ob' : Int32) (b1 b2 b3 b4 b5 b6 b7 : Nat → Int32), N' ≤ N0 + 5 * (r + 1 - q) → (∀ k, k < q ∨ r < k → V' k = V k) → fm_J s N' V' ob' b1 b2 b3 b4 b5 b7 → post (nI r - nI q + 1) (nI s, ob', nI N', b1, b2, b3, b4, b5, b6, b7)) :
    ∀ (m d N : Nat) (V1 : Nat → Option Int32) (ob : Int32) (a1 a2 a3 a4 a5 a6 a7 : Nat → Int32), d + m = r + 1 → q ≤ d → N ≤ N0 + 5 * (d - q) → (∀ k, k < q ∨ r < k → V1 k = V k) → fm_J s N V1 ob a1 a2 a3 a4 a5 a7 →
      wX_fill_48 post (nI q) (nI r) x4 x5 (m + 1) (nI d) (nI s) ob (nI N) a1 a2 a3 a4 a5 a6 a7 := by
  intro m
  induction m with
  | zero =>
    intro d N V1 ob a1 a2 a3 a4 a5 a6 a7 hd hqd hN' hV1 hJ
    have e : d = r + 1 := by omega
    subst e
    exact pk_lt r (r + 1) (fun _ => H N V1 ob a1 a2 a3 a4 a5 a6 a7 hN' hV1 hJ) (fun z => absurd z (by omega))
  | succ m ih =>
    intro d N V1 ob a1 a2 a3 a4 a5 a6 a7 hd hqd hN' hV1 hJ
    refine pk_lt r d (fun z => absurd z (by omega)) (fun z => fm_replace (by omega) hJ (by omega) (fun N2 V2 ob2 b1 b2 b3 b4 b5 b6 b7 g1 g2 g3 => nm_r (nI_1 d) ?_))
    exact ih (d + 1) N2 V2 ob2 b1 b2 b3 b4 b5 b6 b7 (by omega) (by omega) (by omega) (fun k hk => by rw [g2 k (by omega), hV1 k hk]) g3
theorem fm_fill {post : Int32 → St2 → Prop} {s N p q r : Nat} {ob : Int32} {V : Nat → Option Int32} {a1 a2 a3 a4 a5 a6 a7 : Nat → Int32} (hN : N < 2 ^ 29) (hJ : fm_J s N V ob a1 a2 a3 a4 a5 a7) (hp : p < 12) (hq : q < 12) (hr : r < 12) (hqr : q ≤ r)
    (H : ∀ (N' : Nat) (V' : Nat → Option Int32) (ob' : Int32) (b1 b2 b3 b4 b5 b6 b7 : Nat → Int32), N' ≤ N + 5 * (r + 1 - q) → (∀ k, k < q ∨ r < k → V' k = V k) → fm_J s N' V' ob' b1 b2 b3 b4 b5 b7 → post (nI r - nI q + 1) (nI s, ob', nI N', b1, b2, b3, b4, b5, b6, b7)) :
    wpX_fill post (nI s, ob, nI N, a1, a2, a3, a4, a5, a6, a7) (nI p) (nI q) (nI r) := by
  unfold wpX_fill
  exact fm_isPage hp (br_f fm_1n0 (fm_isPage hq (br_f fm_1n0 (fm_isPage hr (br_f fm_1n0 (br_t (nI_le hqr (by omega)) (fm_hasA hJ hp (fun r8 => fm_readA hJ hp (fun r9 =>
    ⟨r + 1 - q + 1, fm_fill48 hN hr H (r + 1 - q) q N V ob a1 a2 a3 a4 a5 a6 a7 (by omega) (Nat.le_refl _) (by omega) (fun _ _ => rfl) hJ⟩)))))))))
/-! ===== calls after which the power is cut ===== -/
theorem fm_BX {s : Nat} {c : Nat → Nat} {ob : Int32} (h : fm_B s c ob) : ∃ o, ∀ b, b < 8 → b ≠ o → c b = 0 ∨ c b = 4 := by
  obtain ⟨_, _, _, ⟨_, h⟩ | ⟨o, _, _, _, h⟩⟩ := h
  · exact ⟨0, fun b hb _ => h b hb⟩
  · exact ⟨o, h⟩
theorem fm_powerCut {post : Int32 → St2 → Prop} {s N : Nat} {ob : Int32} {V : Nat → Option Int32} {a1 a2 a3 a4 a5 a6 a7 : Nat → Int32} (hN : N < 2 ^ 30) (hJ : fm_J s N V ob a1 a2 a3 a4 a5 a7)
    (H : ∀ (N' : Nat) (ob' : Int32) (b7 : Nat → Int32), N' ≤ N → fm_J s N' V ob' a1 a2 a3 a4 a5 b7 → post (fm_usedV V 12) (nI s, ob', nI N', a1, a2, a3, a4, a5, a6, b7)) :
    wpX_powerCut post (nI s, ob, nI N, a1, a2, a3, a4, a5, a6, a7) := by
  unfold wpX_powerCut
  obtain ⟨c, lg, rn, pl, hK, hP, hV, hC, hB⟩ := hJ
  obtain ⟨o, hO⟩ := fm_BX hB
  refine fm_startUp hN hK hC hO hB.1 hB.2.1 hB.2.2.1 (fun M ob' b7 hM hK' hP' hB' => ?_)
  have hJ' : fm_J s M V ob' a1 a2 a3 a4 a5 b7 := ⟨c, lg, rn, pl, hK', hP', hV, hC, hB'⟩
  exact fm_used hJ' (H M ob' b7 hM hJ')
theorem fm_torn {post : Int32 → St2 → Prop} {s N p : Nat} {ob x : Int32} {V : Nat → Option Int32} {a1 a2 a3 a4 a5 a6 a7 : Nat → Int32} (hN : N < 2 ^ 29) (hJ : fm_J s N V ob a1 a2 a3 a4 a5 a7) (hp : p < 12)
    (H : ∀ (N' : Nat) (ob' : Int32) (b1 b2 b3 b4 b5 b6 b7 : Nat → Int32), N' ≤ N + 4 → fm_J s N' V ob' b1 b2 b3 b4 b5 b7 → post (nI p) (nI s, ob', nI N', b1, b2, b3, b4, b5, b6, b7)) :
    wpX_torn post (nI s, ob, nI N, a1, a2, a3, a4, a5, a6, a7) (nI p) x := by
  unfold wpX_torn
  refine fm_isPage hp (br_f fm_1n0 (fm_fresh (by omega) hJ (fun N' o c lg rn pl b1 b2 b3 b4 b5 b6 b7 hN' hK hP hV hC ho hc hB => ?_)))
  have ht : 4 * o + c o < 32 := by omega
  have ht0 := fm_at0 hC ho hc
  have ct : (nI (4 * o + c o)).toNatClampNeg = 4 * o + c o := nI_clamp (by omega)
  have hne : ∀ q, q < 12 → pl q ≠ 4 * o + c o := fun q hq => fm_plne hK ht0 ht hq
  refine ⟨pk_in _ 32 ht, nm_r (e' := upd b1 (4 * o + c o) 2) (by rw [ct]) ⟨pk_in _ 32 ht, nm_r (e' := upd b2 (4 * o + c o) x) (by rw [ct]) ⟨pk_in _ 32 ht, nm_r (e' := upd b3 (4 * o + c o) (nI p)) (by rw [ct, fm_b8 p (by omega)])
    ⟨pk_in _ 32 ht, nm_r (e' := upd b5 (4 * o + c o) (nI N')) (by rw [ct]) ?_⟩⟩⟩⟩
  have hK' : fm_K N' lg rn pl (upd b1 (4 * o + c o) 2) (upd b3 (4 * o + c o) (nI p)) (upd b5 (4 * o + c o) (nI N')) := by
    refine fm_dropK hK (fun j hj => ?_)
    by_cases e : j = 4 * o + c o
    · rw [e, pk_us]
      exact Or.inr ⟨by decide, hne⟩
    · rw [pk_un e, pk_un e, pk_un e]
      exact Or.inl ⟨rfl, rfl, rfl⟩
  have hC' := fm_fillC hC hc (x := 2) (by decide)
  obtain ⟨o', hO⟩ := fm_BX hB
  refine fm_startUp (by omega) hK' hC' hO hB.1 hB.2.1 hB.2.2.1 (fun M ob' d7 hM hK2 hP2 hB2 => ?_)
  exact H M ob' _ _ _ _ _ _ d7 (by omega) ⟨_, lg, rn, pl, hK2, hP2, fm_dropV hV hne x, hC', hB2⟩
/-! ===== the object is made ===== -/
theorem fm_init80 {post : St2 → Prop} {mc ms kc ks s : Nat} {f0 f1 f2 : Int32} (hs1 : 1 ≤ s) (hs3 : s ≤ 3)
    (H : ∀ (s N : Nat) (ob : Int32) (b1 b2 b3 b4 b5 b6 b7 : Nat → Int32), N ≤ 1 → fm_J s N (fun _ => none) ob b1 b2 b3 b4 b5 b7 → post (nI s, ob, nI N, b1, b2, b3, b4, b5, b6, b7)) :
    wX_init_80 post mc ms (nI s) kc ks f0 f1 f2 (fun _ => 0) (fun _ => 0) (fun _ => 0) (fun _ => 0) (fun _ => 0) (fun _ => 0) (fun _ => 0) := by
  unfold wX_init_80
  have hK : fm_K 1 (fun _ => 0) (fun _ => 0) (fun _ => 32) (fun _ => 0) (fun _ => 0) (fun _ => 0) := ⟨Nat.le_refl _, fun j _ g => absurd (show (0 : Int32) = 1 from g) (by decide), fun p _ => Or.inl rfl⟩
  have hC : fm_C (fun _ => 0) (fun _ => 0) := fun b _ => ⟨Nat.zero_le _, fun i _ => ⟨fun _ => Nat.zero_le _, fun _ => rfl⟩⟩
  have h8 : fm_fr (fun _ => 0) = 8 := rfl
  refine fm_startUp (o := 0) (by omega) hK hC (fun b _ _ => Or.inl rfl) hs1 hs3 (by omega) (fun M ob' b7 hM hK' hP' hB' => ?_)
  exact H s M ob' _ _ _ _ _ _ b7 hM ⟨_, _, _, _, hK', hP', fun p _ => Or.inl ⟨rfl, rfl⟩, hC, hB'⟩
theorem fm_init {post : St2 → Prop} {x : Int32}
    (H : ∀ (s N : Nat) (ob : Int32) (b1 b2 b3 b4 b5 b6 b7 : Nat → Int32), N ≤ 1 → fm_J s N (fun _ => none) ob b1 b2 b3 b4 b5 b7 → post (nI s, ob, nI N, b1, b2, b3, b4, b5, b6, b7)) :
    wpX_init post 7 180 (0, 0, 0) x := by
  refine ⟨by decide, by decide, by decide, by decide, by decide, by decide, by decide, by decide, by decide, by decide, by decide, by decide, by decide, by decide, ?_⟩
  refine br_c (fun g => br_c (fun g2 => ?_) (fun _ => fm_init80 (s := 3) (by decide) (by decide) H)) (fun _ => fm_init80 (s := 1) (by decide) (by decide) H)
  have h0 : ¬ x < 0 := by
    rw [Int32.lt_iff_toInt_lt]
    rw [Int32.le_iff_toInt_le] at g
    have e0 : (0 : Int32).toInt = 0 := by decide
    have e1 : (1 : Int32).toInt = 1 := by decide
    omega
  obtain ⟨j, hj, e⟩ := nI_of2 (M := 3) (n := 3) (by decide) h0 g2
  subst e
  have h1 : 1 ≤ j := (nI_leI (a := 1) (b := j) (by decide) (by omega)).mp g
  exact fm_init80 h1 hj H
end
section
/-! ===== the law's loop ===== -/
theorem fm_pg (x : Int32) : ∃ p, p < 12 ∧ (x &&& 255) - (x &&& 255) / 12 * 12 = nI p := by
  obtain ⟨j, hj, e⟩ := pk_andE x (m := 255) 8 (by decide)
  refine ⟨j % 12, Nat.mod_lt _ (by decide), ?_⟩
  rw [e]
  exact pk_rem (a := j) (d := 12) (by omega) (by decide) (by decide)
theorem fm_lc {L i : Nat} (hL : L ≤ 260) (hi : i ≤ 264) : nI L - 4 < nI i ↔ L < i + 4 := by
  rw [Int32.lt_iff_toInt_lt, nI_toInt (show i < 2 ^ 31 by omega), show (nI L - 4).toInt = (L : Int) - (4 : Nat) from pk_sub_toInt (a := L) (b := 4) (by omega) (by omega)]
  omega
theorem fm_cell {post : Int32 → Prop} {L k : Nat} {xs : Nat → Int32} (hL : L ≤ 260) (hk : k < 2) (h : ∀ x, post x) : wpL_cell post L xs () (nI k) :=
  pk_le L k (fun _ => h 0) (fun z => ⟨pk_in k L z, h _⟩)
/-- a turn's end: the page that is known -/
theorem fm_332 {post : Int32 → Prop} {L kc ks i s N pg : Nat} {xs : Nat → Int32} {J34 : Int32 → Int32 → Int32 → Int32 → Int32 → Int32 → (Nat → Int32) → (Nat → Int32) → (Nat → Int32) → (Nat → Int32) → (Nat → Int32) → (Nat → Int32) → (Nat → Int32) → Prop} {kn val ob : Int32} {V : Nat → Option Int32} {a1 a2 a3 a4 a5 a6 a7 : Nat → Int32} (hpg : pg < 12) (hJ : fm_J s N V ob a1 a2 a3 a4 a5 a7) (hkn : ¬ kn = 0 → V pg = some val)
    (H : J34 kn val (nI (i + 4)) (nI s) ob (nI N) a1 a2 a3 a4 a5 a6 a7) : wL_law_332 post L xs J34 (nI pg) kn val (nI i) kc ks (nI s) ob (nI N) a1 a2 a3 a4 a5 a6 a7 := by
  unfold wL_law_332
  refine br_c (fun _ => nm_r (nI_add i 4) H) (fun g => fm_hasJ hJ hpg (fun v hv => br_f fm_1n0 (fm_readJ hJ hpg (fun v2 hv2 => br_t ?_ (nm_r (nI_add i 4) H)) (fun z => ?_))) (fun z => ?_))
  · rw [hkn g] at hv2
    exact (Option.some.inj hv2).symm
  · rw [hkn g] at z
    exact absurd z (Option.some_ne_none val)
  · rw [hkn g] at z
    exact absurd z (Option.some_ne_none val)
theorem fm_154 {post : Int32 → Prop} {L kc ks i s N pg : Nat} {xs : Nat → Int32} {J34 : Int32 → Int32 → Int32 → Int32 → Int32 → Int32 → (Nat → Int32) → (Nat → Int32) → (Nat → Int32) → (Nat → Int32) → (Nat → Int32) → (Nat → Int32) → (Nat → Int32) → Prop} {kn val ob : Int32} {V : Nat → Option Int32} {a1 a2 a3 a4 a5 a6 a7 : Nat → Int32} {p : Nat} {x : Int32} (hN : N < 2 ^ 28) (hp : p < 12) (hpg : pg < 12) (hJ : fm_J s N V ob a1 a2 a3 a4 a5 a7) (hkn : ¬ kn = 0 → V pg = some val)
    (hw : ∀ (N' : Nat) (V' : Nat → Option Int32) (kn' val' ob' : Int32) (b1 b2 b3 b4 b5 b6 b7 : Nat → Int32), N' ≤ N + 10 → fm_J s N' V' ob' b1 b2 b3 b4 b5 b7 → (¬ kn' = 0 → V' pg = some val') → J34 kn' val' (nI (i + 4)) (nI s) ob' (nI N') b1 b2 b3 b4 b5 b6 b7) :
    wL_law_154 post L xs J34 (nI pg) kn val (nI i) (nI p) x (fm_sumV V 12) kc ks (nI s) ob (nI N) a1 a2 a3 a4 a5 a6 a7 := by
  unfold wL_law_154
  exact fm_torn (by omega) hJ hp (fun N' ob' b1 b2 b3 b4 b5 b6 b7 h1 h2 => br_t rfl (fm_sum h2 (br_t rfl (fm_332 hpg h2 hkn (hw N' V kn val ob' b1 b2 b3 b4 b5 b6 b7 (by omega) h2 hkn)))))
theorem fm_217 {post : Int32 → Prop} {L kc ks i s N pg : Nat} {xs : Nat → Int32} {J34 : Int32 → Int32 → Int32 → Int32 → Int32 → Int32 → (Nat → Int32) → (Nat → Int32) → (Nat → Int32) → (Nat → Int32) → (Nat → Int32) → (Nat → Int32) → (Nat → Int32) → Prop} {val ob : Int32} {V : Nat → Option Int32} {a1 a2 a3 a4 a5 a6 a7 : Nat → Int32} (hpg : pg < 12) (hJ : fm_J s N V ob a1 a2 a3 a4 a5 a7)
    (H : J34 0 val (nI (i + 4)) (nI s) ob (nI N) a1 a2 a3 a4 a5 a6 a7) : wL_law_217 post L xs J34 (nI pg) val (nI i) kc ks (nI s) ob (nI N) a1 a2 a3 a4 a5 a6 a7 := by
  unfold wL_law_217
  exact fm_332 hpg hJ (fun z => absurd rfl z) H
theorem fm_246 {post : Int32 → Prop} {L kc ks i s N pg : Nat} {xs : Nat → Int32} {J34 : Int32 → Int32 → Int32 → Int32 → Int32 → Int32 → (Nat → Int32) → (Nat → Int32) → (Nat → Int32) → (Nat → Int32) → (Nat → Int32) → (Nat → Int32) → (Nat → Int32) → Prop} {kn val ob : Int32} {V : Nat → Option Int32} {a1 a2 a3 a4 a5 a6 a7 : Nat → Int32} {p q r : Nat} (hN : N < 2 ^ 28) (hp : p < 12) (hq : q < 12) (hr : r < 12) (hqr : q ≤ r) (hr1 : r ≤ q + 1) (hpg : pg < 12) (hJ : fm_J s N V ob a1 a2 a3 a4 a5 a7) (hkn : ¬ kn = 0 → V pg = some val)
    (hw : ∀ (N' : Nat) (V' : Nat → Option Int32) (kn' val' ob' : Int32) (b1 b2 b3 b4 b5 b6 b7 : Nat → Int32), N' ≤ N + 10 → fm_J s N' V' ob' b1 b2 b3 b4 b5 b7 → (¬ kn' = 0 → V' pg = some val') → J34 kn' val' (nI (i + 4)) (nI s) ob' (nI N') b1 b2 b3 b4 b5 b6 b7) :
    wL_law_246 post L xs J34 (nI pg) kn val (nI i) (nI p) (nI q) (nI r) kc ks (nI s) ob (nI N) a1 a2 a3 a4 a5 a6 a7 := by
  unfold wL_law_246
  refine fm_fill (by omega) hJ hp hq hr hqr (fun N' V' ob' b1 b2 b3 b4 b5 b6 b7 h1 h2 h3 => br_t rfl ?_)
  have keep : pg < q ∨ r < pg → wL_law_332 post L xs J34 (nI pg) kn val (nI i) kc ks (nI s) ob' (nI N') b1 b2 b3 b4 b5 b6 b7 := by
    intro z
    have hk' : ¬ kn = 0 → V' pg = some val := fun y => by rw [h2 pg z]; exact hkn y
    exact fm_332 hpg h3 hk' (hw N' V' kn val ob' b1 b2 b3 b4 b5 b6 b7 (by omega) h3 hk')
  refine pk_lt pg q (fun z => keep (Or.inl z)) (fun z => pk_lt r pg (fun z2 => keep (Or.inr z2)) (fun z2 => ?_))
  exact fm_332 hpg h3 (fun z => absurd rfl z) (hw N' V' 0 val ob' b1 b2 b3 b4 b5 b6 b7 (by omega) h3 (fun z => absurd rfl z))
/-- one turn -/
theorem fm_turn {post : Int32 → Prop} {L kc ks i s N pg n : Nat} {xs : Nat → Int32} {kn val ob : Int32} {V : Nat → Option Int32} {a1 a2 a3 a4 a5 a6 a7 : Nat → Int32} (hL : L ≤ 260) (hi : i + 4 ≤ L) (hN : N < 2 ^ 28) (hpg : pg < 12) (hJ : fm_J s N V ob a1 a2 a3 a4 a5 a7) (hkn : ¬ kn = 0 → V pg = some val)
    (hw : ∀ (N' : Nat) (V' : Nat → Option Int32) (kn' val' ob' : Int32) (b1 b2 b3 b4 b5 b6 b7 : Nat → Int32), N' ≤ N + 10 → fm_J s N' V' ob' b1 b2 b3 b4 b5 b7 → (¬ kn' = 0 → V' pg = some val') → wL_law_34 post L xs (nI pg) kc ks n kn' val' (nI (i + 4)) (nI s) ob' (nI N') b1 b2 b3 b4 b5 b6 b7) :
    wL_law_34 post L xs (nI pg) kc ks (n + 1) kn val (nI i) (nI s) ob (nI N) a1 a2 a3 a4 a5 a6 a7 := by
  obtain ⟨p, hp, ep⟩ := fm_pg (xs (nI i + 1).toNatClampNeg)
  obtain ⟨q, hq, eq⟩ := fm_pg (xs (nI i + 2).toNatClampNeg)
  obtain ⟨k, hk, ek⟩ := pk_andE (xs (nI i).toNatClampNeg) (m := 15) 4 (by decide)
  refine br_f (fun z => absurd ((fm_lc hL (by omega)).mp z) (by omega)) ⟨pk_in (i + 1) L (by omega) (nI_add i 1), by decide, nm_r ep ⟨pk_in (i + 2) L (by omega) (nI_add i 2), by decide, nm_r eq ⟨pk_in (i + 3) L (by omega) (nI_add i 3), fun x _ => ?_⟩⟩⟩
  refine fm_sum hJ ⟨pk_in i L (by omega), nm_r ek ?_⟩
  refine pk_lt k 0 (fun z => absurd z (by omega)) (fun _ => pk_lt 5 k (fun z => ?_) (fun z => ?_))
  · refine fm_write (by omega) hJ hp (fun r N' ob' b1 b2 b3 b4 b5 b6 b7 hr h1 h2 => br_f hr (fm_readJ h2 hp (fun v2 hv2 => br_t ?_ (fm_hasJ h2 hp (fun _ _ => br_f fm_1n0 ?_) (fun y => ?_))) (fun y => ?_)))
    · rw [fm_us] at hv2
      exact (Option.some.inj hv2).symm
    · refine pk_eq p pg (fun e => ?_) (fun e => ?_)
      · have hk' : ¬ (1 : Int32) = 0 → fm_u V p (some x) pg = some x := fun _ => by rw [e]; exact fm_us
        exact fm_332 hpg h2 hk' (hw N' _ 1 x ob' b1 b2 b3 b4 b5 b6 b7 (by omega) h2 hk')
      · have hk' : ¬ kn = 0 → fm_u V p (some x) pg = some val := fun y => by rw [fm_un (Ne.symm e)]; exact hkn y
        exact fm_332 hpg h2 hk' (hw N' _ kn val ob' b1 b2 b3 b4 b5 b6 b7 (by omega) h2 hk')
    · rw [fm_us] at y
      exact absurd y (Option.some_ne_none x)
    · rw [fm_us] at y
      exact absurd y (Option.some_ne_none x)
  · refine pk_eq k 0 (fun _ => ?_) (fun e0 => pk_eq k 1 (fun _ => ?_) (fun e1 => pk_eq k 2 (fun _ => ?_) (fun e2 => pk_eq k 3 (fun _ => ?_) (fun e3 => pk_eq k 4 (fun _ => ?_) (fun e4 => pk_eq k 5 (fun _ => ?_) (fun e5 => absurd z (by omega)))))))
    · exact fm_powerCut (by omega) hJ (fun N' ob' b7 h1 h2 => fm_used h2 (br_t rfl (fm_sum h2 (br_t rfl (fm_332 hpg h2 hkn (hw N' V kn val ob' a1 a2 a3 a4 a5 a6 b7 (by omega) h2 hkn))))))
    · exact fm_154 hN hp hpg hJ hkn hw
    · exact fm_154 hN hp hpg hJ hkn hw
    · refine fm_trim (by omega) hJ hp (fun r N' V' ob' b1 b2 b3 b4 b5 b6 b7 h1 h2 h3 => pk_eq p pg (fun e => ?_) (fun e => ?_))
      · exact fm_332 hpg h3 (fun y => absurd rfl y) (hw N' V' 0 val ob' b1 b2 b3 b4 b5 b6 b7 (by omega) h3 (fun y => absurd rfl y))
      · have hk' : ¬ kn = 0 → V' pg = some val := fun y => by rw [h2 pg (Ne.symm e)]; exact hkn y
        exact fm_332 hpg h3 hk' (hw N' V' kn val ob' b1 b2 b3 b4 b5 b6 b7 (by omega) h3 hk')
    · refine fm_exchange (by omega) hJ hp hq (fun r N' V' ob' b1 b2 b3 b4 b5 b6 b7 h1 h2 h3 => ?_)
      have zero := hw N' V' 0 val ob' b1 b2 b3 b4 b5 b6 b7 (by omega) h3 (fun y => absurd rfl y)
      refine pk_eq p pg (fun e => fm_217 hpg h3 zero) (fun e => pk_eq q pg (fun e2 => fm_217 hpg h3 zero) (fun e2 => ?_))
      have hk' : ¬ kn = 0 → V' pg = some val := fun y => by rw [h2 pg (Ne.symm e) (Ne.symm e2)]; exact hkn y
      exact fm_332 hpg h3 hk' (hw N' V' kn val ob' b1 b2 b3 b4 b5 b6 b7 (by omega) h3 hk')
    · obtain ⟨j, hj, ej⟩ := pk_andE x (m := 1) 1 (by decide)
      rw [ej, nI_add]
      exact pk_le (q + j) 11 (fun y => fm_246 hN hp hq (by omega) (by omega) (by omega) hpg hJ hkn hw) (fun y => fm_246 (r := 11) hN hp hq (by omega) (by omega) (by omega) hpg hJ hkn hw)
theorem fm_law {post : Int32 → Prop} {L kc ks s pg : Nat} {xs : Nat → Int32} (h1 : post 1) (hL : L ≤ 260) (hpg : pg < 12) :
    ∀ (m i N : Nat) (V : Nat → Option Int32) (kn val ob : Int32) (a1 a2 a3 a4 a5 a6 a7 : Nat → Int32), L < i + 4 * m + 4 → i ≤ 264 → N ≤ 3 * i → fm_J s N V ob a1 a2 a3 a4 a5 a7 → (¬ kn = 0 → V pg = some val) →
      wL_law_34 post L xs (nI pg) kc ks (m + 1) kn val (nI i) (nI s) ob (nI N) a1 a2 a3 a4 a5 a6 a7 := by
  intro m
  induction m with
  | zero =>
    intro i N V kn val ob a1 a2 a3 a4 a5 a6 a7 hm hi hN hJ hkn
    exact br_t ((fm_lc hL hi).mpr (by omega)) h1
  | succ m ih =>
    intro i N V kn val ob a1 a2 a3 a4 a5 a6 a7 hm hi hN hJ hkn
    by_cases g : L < i + 4
    · exact br_t ((fm_lc hL hi).mpr g) h1
    · exact fm_turn hL (by omega) (by omega) hpg hJ hkn (fun N' V' kn' val' ob' b1 b2 b3 b4 b5 b6 b7 q1 q2 q3 => ih (i + 4) N' V' kn' val' ob' b1 b2 b3 b4 b5 b6 b7 (by omega) (by omega) (by omega) q2 q3)
theorem i_vc (xs : Nat → Int32) (L : Nat) (hL : L ≤ 260) : wpL_law (fun r => r = 1) L xs := by
  unfold wpL_law
  refine fm_cell (k := 0) hL (by decide) (fun x => ⟨7, 180, by decide, by decide, fm_init (fun s N ob b1 b2 b3 b4 b5 b6 b7 hN hJ => fm_cell (k := 1) hL (by decide) (fun y => ⟨by decide, ?_⟩))⟩)
  obtain ⟨pg, hpg, e⟩ := fm_pg y
  exact nm_r e ⟨65 + 1, fm_law (post := fun r => r = 1) rfl hL hpg 65 2 N _ 0 0 ob b1 b2 b3 b4 b5 b6 b7 (by omega) (by omega) (by omega) hJ (fun z => absurd rfl z)⟩
end
