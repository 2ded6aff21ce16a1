section
/-! ===== bits (family of BITS.to-paste, the rows that are used) ===== -/
def bt (x : Int32) (i : Nat) : Bool := x.toBitVec.getLsbD i
theorem b_ext {x y : Int32} (h : ∀ i, i < 32 → bt x i = bt y i) : x = y := Int32.toBitVec_inj.mp (BitVec.eq_of_getLsbD_eq (fun i hi => h i hi))
theorem b_or (x y : Int32) (i : Nat) : bt (x ||| y) i = (bt x i || bt y i) := by unfold bt; rw [Int32.toBitVec_or, BitVec.getLsbD_or]
theorem b_and (x y : Int32) (i : Nat) : bt (x &&& y) i = (bt x i && bt y i) := by unfold bt; rw [Int32.toBitVec_and, BitVec.getLsbD_and]
theorem b_0 (i : Nat) : bt 0 i = false := BitVec.getLsbD_zero
theorem s_l : ∀ n, n < 32 → ((nI n &&& 31).toBitVec.smod 32).toNat = n := by decide +kernel
theorem b_sshr (n : Nat) (hn : n < 32) (x : Int32) {i : Nat} (hi : i < 32) : bt (x >>> (nI n &&& 31)) i = if n + i < 32 then bt x (n + i) else bt x 31 := by
  unfold bt
  rw [Int32.toBitVec_shiftRight]
  show (x.toBitVec.sshiftRight ((nI n &&& 31).toBitVec.smod 32).toNat).getLsbD i = _
  rw [s_l n hn, BitVec.getLsbD_sshiftRight, BitVec.msb_eq_getLsbD_last]
  simp [hi]
theorem zl_b1 : ∀ i, i < 32 → bt 1 i = decide (i = 0) := by decide +kernel
theorem zl_sh : ∀ k, k < 32 → ∀ i, i < 32 → bt ((1 : Int32) <<< (nI k &&& 31)) i = decide (i = k) := by decide +kernel
theorem zl_o0 (x : Int32) : x ||| 0 = x := by
  apply b_ext
  intro i hi
  rw [b_or, b_0, Bool.or_false]
theorem zl_bit0 {x : Int32} {n : Nat} (hn : n < 32) (h : bt x n = false) : ((x >>> (nI n &&& 31)) &&& 1) = 0 := by
  apply b_ext
  intro i hi
  rw [b_and, zl_b1 i hi, b_0]
  by_cases e : i = 0
  · subst e
    rw [b_sshr n hn x hi, if_pos (by omega), Nat.add_zero, h]
    rfl
  · rw [decide_eq_false e, Bool.and_false]
theorem zl_bit1 {x : Int32} {n : Nat} (hn : n < 32) (h : bt x n = true) : ((x >>> (nI n &&& 31)) &&& 1) = 1 := by
  apply b_ext
  intro i hi
  rw [b_and, zl_b1 i hi]
  by_cases e : i = 0
  · subst e
    rw [b_sshr n hn x hi, if_pos (by omega), Nat.add_zero, h]
    rfl
  · rw [decide_eq_false e, Bool.and_false]
/-! ===== small ints ===== -/
theorem zl_neg : (-1 : Int32) < 0 := by decide
theorem zl_nneg : ¬ (0 : Int32) ≤ (-1) := by decide
theorem zl_one : ¬ (1 : Int32) = 0 := by decide
theorem zl_m1 {n : Nat} (h : n < 2 ^ 31) : ¬ (-1 : Int32) = nI n := by
  intro z
  have h1 : (-1 : Int32) < 0 := by decide
  rw [z] at h1
  exact nI_pos h h1
theorem zl_b8 : ∀ n, n < 10 → (nI n).toInt8.toInt32 = nI n := by decide +kernel
theorem zl_b8m : (-1 : Int32).toInt8.toInt32 = -1 := by decide
/-- an optional number as an int -/
def zl_e : Option Nat → Int32
  | none => -1
  | some n => nI n
theorem zl_en : zl_e none = -1 := rfl
theorem zl_es (n : Nat) : zl_e (some n) = nI n := rfl
/-- one place of a function changed -/
def zl_p {α : Type} (f : Nat → α) (s : Nat) (v : α) : Nat → α := fun x => if x = s then v else f x
theorem zl_ps {α : Type} (f : Nat → α) (s : Nat) (v : α) : zl_p f s v s = v := if_pos rfl
theorem zl_pn {α : Type} {f : Nat → α} {s x : Nat} {v : α} (h : x ≠ s) : zl_p f s v x = f x := if_neg h
/-! ===== the graph of waiting ===== -/
def zl_n (w h : Nat → Option Nat) (s : Nat) : Option Nat := match w s with
  | none => none
  | some l => h l
theorem zl_nn {w h : Nat → Option Nat} {s : Nat} (e : w s = none) : zl_n w h s = none := by
  unfold zl_n
  rw [e]
theorem zl_ns {w h : Nat → Option Nat} {s l : Nat} (e : w s = some l) : zl_n w h s = h l := by
  unfold zl_n
  rw [e]
theorem zl_nx {w h : Nat → Option Nat} {s t : Nat} (e : zl_n w h s = some t) : ∃ l, w s = some l ∧ h l = some t := by
  cases hw : w s with
  | none => rw [zl_nn hw] at e; exact absurd e (by simp)
  | some l => rw [zl_ns hw] at e; exact ⟨l, rfl, e⟩
def zl_D (rk : Nat → Nat) (nx : Nat → Option Nat) : Prop := ∀ x y, x < 6 → nx x = some y → y < 6 ∧ rk y < rk x
def zl_A (nx : Nat → Option Nat) : Prop := ∃ rk : Nat → Nat, (∀ x, x < 6 → rk x < 6) ∧ zl_D rk nx
def zl_cn (rk : Nat → Nat) (m : Nat) : Nat → Nat
  | 0 => 0
  | k + 1 => zl_cn rk m k + (if rk k < m then 1 else 0)
theorem zl_cn_le (rk : Nat → Nat) (m k : Nat) : zl_cn rk m k ≤ k := by
  induction k with
  | zero => exact Nat.le_refl 0
  | succ k ih =>
    show zl_cn rk m k + (if rk k < m then 1 else 0) ≤ k + 1
    split <;> omega
theorem zl_cn_lt {rk : Nat → Nat} {m x : Nat} (h : ¬ rk x < m) : ∀ k, x < k → zl_cn rk m k < k := by
  intro k
  induction k with
  | zero => intro z; exact absurd z (by omega)
  | succ k ih =>
    intro z
    show zl_cn rk m k + (if rk k < m then 1 else 0) < k + 1
    by_cases e : x = k
    · subst e
      rw [if_neg h]
      have := zl_cn_le rk m x
      omega
    · have := ih (by omega)
      split <;> omega
theorem zl_cn_mono {rk : Nat → Nat} {m m' : Nat} (h : m ≤ m') : ∀ k, zl_cn rk m k ≤ zl_cn rk m' k := by
  intro k
  induction k with
  | zero => exact Nat.le_refl 0
  | succ k ih =>
    show zl_cn rk m k + (if rk k < m then 1 else 0) ≤ zl_cn rk m' k + (if rk k < m' then 1 else 0)
    by_cases e : rk k < m
    · rw [if_pos e, if_pos (by omega)]
      omega
    · rw [if_neg e]
      omega
theorem zl_cn_slt {rk : Nat → Nat} {m m' y : Nat} (h : m ≤ m') (h1 : rk y < m') (h2 : ¬ rk y < m) : ∀ k, y < k → zl_cn rk m k < zl_cn rk m' k := by
  intro k
  induction k with
  | zero => intro z; exact absurd z (by omega)
  | succ k ih =>
    intro z
    show zl_cn rk m k + (if rk k < m then 1 else 0) < zl_cn rk m' k + (if rk k < m' then 1 else 0)
    by_cases e : y = k
    · subst e
      rw [if_neg h2, if_pos h1]
      have := zl_cn_mono (rk := rk) h y
      omega
    · have := ih (by omega)
      by_cases e : rk k < m
      · rw [if_pos e, if_pos (by omega)]
        omega
      · rw [if_neg e]
        omega
/-- any rank can be brought below 6 -/
theorem zl_rk {nx : Nat → Option Nat} (rk : Nat → Nat) (h : zl_D rk nx) : zl_A nx := by
  refine ⟨fun x => zl_cn rk (rk x) 6, fun x hx => zl_cn_lt (by omega) 6 hx, fun x y hx e => ?_⟩
  obtain ⟨hy, hr⟩ := h x y hx e
  exact ⟨hy, zl_cn_slt (by omega) hr (by omega) 6 hy⟩
/-- whether s waits, through at most n steps, for o -/
def zl_d (nx : Nat → Option Nat) : Nat → Nat → Nat → Bool
  | 0, _, _ => false
  | n + 1, s, o => match nx s with
    | none => false
    | some y => decide (y = o) || zl_d nx n y o
theorem zl_d0 (nx : Nat → Option Nat) (s o : Nat) : zl_d nx 0 s o = false := rfl
theorem zl_dn {nx : Nat → Option Nat} {s : Nat} (e : nx s = none) (n o : Nat) : zl_d nx n s o = false := by
  cases n with
  | zero => rfl
  | succ n =>
    unfold zl_d
    rw [e]
theorem zl_ds {nx : Nat → Option Nat} {s y : Nat} (e : nx s = some y) (n o : Nat) : zl_d nx (n + 1) s o = (decide (y = o) || zl_d nx n y o) := by
  rw [zl_d.eq_def]
  dsimp only
  rw [e]
theorem zl_dS {nx : Nat → Option Nat} {rk : Nat → Nat} (h : zl_D rk nx) (o : Nat) : ∀ n m x, x < 6 → rk x < n → rk x < m → zl_d nx n x o = zl_d nx m x o := by
  intro n
  induction n with
  | zero => intro m x _ z; exact absurd z (by omega)
  | succ n ih =>
    intro m x hx hn hm
    cases m with
    | zero => exact absurd hm (by omega)
    | succ m =>
      cases e : nx x with
      | none => rw [zl_dn e, zl_dn e]
      | some y =>
        obtain ⟨hy, hr⟩ := h x y hx e
        rw [zl_ds e, zl_ds e, ih m y hy (by omega) (by omega)]
theorem zl_dL {nx : Nat → Option Nat} {rk : Nat → Nat} (h6 : ∀ x, x < 6 → rk x < 6) (h : zl_D rk nx) {x y : Nat} (o : Nat) (hx : x < 6) (e : nx x = some y) : zl_d nx 6 x o = true ↔ (y = o ∨ zl_d nx 6 y o = true) := by
  obtain ⟨hy, hr⟩ := h x y hx e
  have := h6 x hx
  rw [zl_ds e, zl_dS h o 5 6 y hy (by omega) (by omega), Bool.or_eq_true, decide_eq_true_iff]
theorem zl_dr {nx : Nat → Option Nat} {rk : Nat → Nat} (h6 : ∀ x, x < 6 → rk x < 6) (h : zl_D rk nx) (o : Nat) : ∀ m x, x < 6 → rk x < m → zl_d nx 6 x o = true → rk o < rk x := by
  intro m
  induction m with
  | zero => intro x _ z; exact absurd z (by omega)
  | succ m ih =>
    intro x hx hm hd
    cases e : nx x with
    | none => rw [zl_dn e] at hd; exact absurd hd (by simp)
    | some y =>
      obtain ⟨hy, hr⟩ := h x y hx e
      rcases (zl_dL h6 h o hx e).mp hd with z | z
      · subst z; exact hr
      · have := ih y hy (by omega) z
        omega
theorem zl_dR1 {nx : Nat → Option Nat} {rk : Nat → Nat} (h6 : ∀ x, x < 6 → rk x < 6) (h : zl_D rk nx) (t : Nat) : ∀ m x, x < 6 → rk x < m → zl_d nx 6 x t = true → ∃ p, p < 6 ∧ nx p = some t ∧ (x = p ∨ zl_d nx 6 x p = true) := by
  intro m
  induction m with
  | zero => intro x _ z; exact absurd z (by omega)
  | succ m ih =>
    intro x hx hm hd
    cases e : nx x with
    | none => rw [zl_dn e] at hd; exact absurd hd (by simp)
    | some y =>
      obtain ⟨hy, hr⟩ := h x y hx e
      rcases (zl_dL h6 h t hx e).mp hd with z | z
      · subst z; exact ⟨x, hx, e, Or.inl rfl⟩
      · obtain ⟨p, hp, e2, z2⟩ := ih y hy (by omega) z
        exact ⟨p, hp, e2, Or.inr ((zl_dL h6 h p hx e).mpr z2)⟩
theorem zl_dR2 {nx : Nat → Option Nat} {rk : Nat → Nat} (h6 : ∀ x, x < 6 → rk x < 6) (h : zl_D rk nx) {p t : Nat} (hp : p < 6) (ep : nx p = some t) : ∀ m x, x < 6 → rk x < m → zl_d nx 6 x p = true → zl_d nx 6 x t = true := by
  intro m
  induction m with
  | zero => intro x _ z; exact absurd z (by omega)
  | succ m ih =>
    intro x hx hm hd
    cases e : nx x with
    | none => rw [zl_dn e] at hd; exact absurd hd (by simp)
    | some y =>
      obtain ⟨hy, hr⟩ := h x y hx e
      rcases (zl_dL h6 h p hx e).mp hd with z | z
      · subst z; exact (zl_dL h6 h t hx e).mpr (Or.inr ((zl_dL h6 h t hp ep).mpr (Or.inl rfl)))
      · exact (zl_dL h6 h t hx e).mpr (Or.inr (ih y hy (by omega) z))
theorem zl_dR {nx : Nat → Option Nat} (hA : zl_A nx) {x t : Nat} (hx : x < 6) : zl_d nx 6 x t = true ↔ ∃ p, p < 6 ∧ nx p = some t ∧ (x = p ∨ zl_d nx 6 x p = true) := by
  obtain ⟨rk, h6, h⟩ := hA
  refine ⟨zl_dR1 h6 h t (rk x + 1) x hx (by omega), fun z => ?_⟩
  obtain ⟨p, hp, e, z⟩ := z
  rcases z with z | z
  · subst z; exact (zl_dL h6 h t hp e).mpr (Or.inl rfl)
  · exact zl_dR2 h6 h hp e (rk x + 1) x hx (by omega) z
theorem zl_dI {nx : Nat → Option Nat} (hA : zl_A nx) {x : Nat} (hx : x < 6) : zl_d nx 6 x x = false := by
  obtain ⟨rk, h6, h⟩ := hA
  cases e : zl_d nx 6 x x with
  | false => rfl
  | true => exact absurd (zl_dr h6 h x (rk x + 1) x hx (by omega) e) (by omega)
theorem zl_Ai {nx : Nat → Option Nat} (hA : zl_A nx) {x y : Nat} (hx : x < 6) (e : nx x = some y) : y ≠ x := by
  obtain ⟨rk, h6, h⟩ := hA
  intro z
  subst z
  exact absurd (h y y hx e).2 (by omega)
/-! ranks behind a move -/
theorem zl_Asub {nx nx' : Nat → Option Nat} (hA : zl_A nx) (h : ∀ x y, x < 6 → nx' x = some y → nx x = some y) : zl_A nx' := by
  obtain ⟨rk, h6, hd⟩ := hA
  exact ⟨rk, h6, fun x y hx e => hd x y hx (h x y hx e)⟩
theorem zl_Agive {nx nx' : Nat → Option Nat} {r : Nat} (hA : zl_A nx) (hr : r < 6) (h0 : nx' r = none) (h1 : ∀ x y, x < 6 → x ≠ r → nx' x = some y → y = r ∨ nx x = some y) : zl_A nx' := by
  obtain ⟨rk, h6, hd⟩ := hA
  refine zl_rk (fun x => if x = r then 0 else rk x + 1) (fun x y hx e => ?_)
  have hxr : x ≠ r := by
    intro z
    rw [z, h0] at e
    exact absurd e (by simp)
  show y < 6 ∧ (if y = r then 0 else rk y + 1) < (if x = r then 0 else rk x + 1)
  rw [if_neg hxr]
  rcases h1 x y hx hxr e with z | z
  · rw [if_pos z]
    exact ⟨by omega, by omega⟩
  · obtain ⟨hy, hq⟩ := hd x y hx z
    refine ⟨hy, ?_⟩
    split <;> omega
theorem zl_Aadd {nx nx' : Nat → Option Nat} {s t : Nat} (hA : zl_A nx) (hs : s < 6) (h1 : nx' t = some s) (h2 : ∀ x, x ≠ t → nx' x = nx x) (hst : s ≠ t) (hd : zl_d nx 6 s t = false) : zl_A nx' := by
  obtain ⟨rk, h6, hD⟩ := hA
  refine zl_rk (fun x => rk x + (if x = t ∨ zl_d nx 6 x t = true then rk s + 1 else 0)) (fun x y hx e => ?_)
  show y < 6 ∧ rk y + (if y = t ∨ zl_d nx 6 y t = true then rk s + 1 else 0) < rk x + (if x = t ∨ zl_d nx 6 x t = true then rk s + 1 else 0)
  by_cases hxt : x = t
  · rw [hxt, h1] at e
    have ey : s = y := Option.some.inj e
    subst ey
    refine ⟨hs, ?_⟩
    rw [if_neg (by rw [hd]; simp [hst]), if_pos (Or.inl hxt)]
    omega
  · rw [h2 x hxt] at e
    obtain ⟨hy, hr⟩ := hD x y hx e
    refine ⟨hy, ?_⟩
    have hl := zl_dL h6 hD t hx e
    by_cases c : y = t ∨ zl_d nx 6 y t = true
    · rw [if_pos c, if_pos (Or.inr (hl.mpr c))]
      omega
    · rw [if_neg c]
      omega
/-! ===== the urgency that is due ===== -/
def zl_L (nx : Nat → Option Nat) (u : Nat → Nat) (t m : Nat) : Nat → Nat
  | 0 => m
  | k + 1 => if nx k = some t ∧ zl_L nx u t m k < u k then u k else zl_L nx u t m k
theorem zl_L0 (nx : Nat → Option Nat) (u : Nat → Nat) (t m : Nat) : zl_L nx u t m 0 = m := rfl
theorem zl_Lp {nx : Nat → Option Nat} {u : Nat → Nat} {t m k : Nat} (h : nx k = some t) (h2 : zl_L nx u t m k < u k) : zl_L nx u t m (k + 1) = u k := if_pos ⟨h, h2⟩
theorem zl_Lq {nx : Nat → Option Nat} {u : Nat → Nat} {t m k : Nat} (h2 : ¬ zl_L nx u t m k < u k) : zl_L nx u t m (k + 1) = zl_L nx u t m k := if_neg (fun z => h2 z.2)
theorem zl_Ln {nx : Nat → Option Nat} {u : Nat → Nat} {t m k : Nat} (h : ¬ nx k = some t) : zl_L nx u t m (k + 1) = zl_L nx u t m k := if_neg (fun z => h z.1)
theorem zl_L9 {nx : Nat → Option Nat} {u : Nat → Nat} {t m : Nat} (hm : m ≤ 9) (hu : ∀ j, j < 6 → u j ≤ 9) : ∀ k, k ≤ 6 → zl_L nx u t m k ≤ 9 := by
  intro k
  induction k with
  | zero => intro _; exact hm
  | succ k ih =>
    intro hk
    by_cases c : nx k = some t ∧ zl_L nx u t m k < u k
    · rw [zl_Lp c.1 c.2]
      exact hu k (by omega)
    · have e : zl_L nx u t m (k + 1) = zl_L nx u t m k := if_neg c
      rw [e]
      exact ih (by omega)
theorem zl_Lc {nx nx' : Nat → Option Nat} {u u' : Nat → Nat} {t m : Nat} : ∀ k, (∀ j, j < k → (nx' j = some t ↔ nx j = some t) ∧ (nx j = some t → u' j = u j)) → zl_L nx' u' t m k = zl_L nx u t m k := by
  intro k
  induction k with
  | zero => intro _; rfl
  | succ k ih =>
    intro h
    have ih' := ih (fun j hj => h j (by omega))
    obtain ⟨h1, h2⟩ := h k (by omega)
    by_cases c : nx k = some t
    · have c' := h1.mpr c
      have e := h2 c
      by_cases q : zl_L nx u t m k < u k
      · rw [zl_Lp c q, zl_Lp c' (by rw [ih', e]; exact q), e]
      · rw [zl_Lq q, zl_Lq (by rw [ih', e]; exact q), ih']
    · rw [zl_Ln c, zl_Ln (fun z => c (h1.mp z)), ih']
/-- one thread brought up to date -/
theorem zl_Eup {nx : Nat → Option Nat} {b u : Nat → Nat} {s v : Nat} {X : Nat → Prop} (hv : v = zl_L nx u s (b s) 6) (hns : nx s ≠ some s) (hE : ∀ t, t < 6 → ¬ X t → t ≠ s → u t = zl_L nx u t (b t) 6) (t : Nat) (ht : t < 6) (hX : ¬ X t) (hq : nx s = some t → v = u s) : zl_p u s v t = zl_L nx (zl_p u s v) t (b t) 6 := by
  have e : zl_L nx (zl_p u s v) t (b t) 6 = zl_L nx u t (b t) 6 := by
    refine zl_Lc 6 (fun j hj => ⟨Iff.rfl, fun z => ?_⟩)
    by_cases c : j = s
    · subst c
      rw [zl_ps]
      exact hq z
    · exact zl_pn c
  rw [e]
  by_cases c : t = s
  · subst c
    rw [zl_ps]
    exact hv
  · rw [zl_pn c]
    exact hE t ht hX c
end
section
/-! ===== masks, counts, bests: pure folds ===== -/
def zl_W (nx : Nat → Option Nat) (t : Nat) : Nat → Int32
  | 0 => 0
  | k + 1 => if zl_d nx 6 k t = true then zl_W nx t k ||| ((1 : Int32) <<< (nI k &&& 31)) else zl_W nx t k
def zl_B (nx : Nat → Option Nat) (t : Nat) : Nat → Int32
  | 0 => 0
  | k + 1 => if nx k = some t then (zl_B nx t k ||| ((1 : Int32) <<< (nI k &&& 31))) ||| zl_W nx k 6 else zl_B nx t k
def zl_H (h : Nat → Option Nat) (t : Nat) : Nat → Int32
  | 0 => 0
  | k + 1 => if h k = some t then zl_H h t k ||| ((1 : Int32) <<< (nI k &&& 31)) else zl_H h t k
def zl_F (b u : Nat → Nat) : Nat → Int32
  | 0 => 0
  | k + 1 => if b k < u k then zl_F b u k ||| ((1 : Int32) <<< (nI k &&& 31)) else zl_F b u k
def zl_C (w : Nat → Option Nat) (l : Nat) : Nat → Nat
  | 0 => 0
  | k + 1 => if w k = some l then zl_C w l k + 1 else zl_C w l k
theorem zl_W0 (nx : Nat → Option Nat) (t : Nat) : zl_W nx t 0 = 0 := rfl
theorem zl_Wt {nx : Nat → Option Nat} {t k : Nat} (h : zl_d nx 6 k t = true) : zl_W nx t (k + 1) = zl_W nx t k ||| ((1 : Int32) <<< (nI k &&& 31)) := if_pos h
theorem zl_Wf {nx : Nat → Option Nat} {t k : Nat} (h : ¬ zl_d nx 6 k t = true) : zl_W nx t (k + 1) = zl_W nx t k := if_neg h
theorem zl_Bt {nx : Nat → Option Nat} {t k : Nat} (h : nx k = some t) : zl_B nx t (k + 1) = (zl_B nx t k ||| ((1 : Int32) <<< (nI k &&& 31))) ||| zl_W nx k 6 := if_pos h
theorem zl_Bf {nx : Nat → Option Nat} {t k : Nat} (h : ¬ nx k = some t) : zl_B nx t (k + 1) = zl_B nx t k := if_neg h
theorem zl_Ht {h : Nat → Option Nat} {t k : Nat} (e : h k = some t) : zl_H h t (k + 1) = zl_H h t k ||| ((1 : Int32) <<< (nI k &&& 31)) := if_pos e
theorem zl_Hf {h : Nat → Option Nat} {t k : Nat} (e : ¬ h k = some t) : zl_H h t (k + 1) = zl_H h t k := if_neg e
theorem zl_Ft {b u : Nat → Nat} {k : Nat} (e : b k < u k) : zl_F b u (k + 1) = zl_F b u k ||| ((1 : Int32) <<< (nI k &&& 31)) := if_pos e
theorem zl_Ff {b u : Nat → Nat} {k : Nat} (e : ¬ b k < u k) : zl_F b u (k + 1) = zl_F b u k := if_neg e
theorem zl_Ct {w : Nat → Option Nat} {l k : Nat} (e : w k = some l) : zl_C w l (k + 1) = zl_C w l k + 1 := if_pos e
theorem zl_Cf {w : Nat → Option Nat} {l k : Nat} (e : ¬ w k = some l) : zl_C w l (k + 1) = zl_C w l k := if_neg e
theorem zl_Cle (w : Nat → Option Nat) (l : Nat) : ∀ k, zl_C w l k ≤ k := by
  intro k
  induction k with
  | zero => exact Nat.le_refl 0
  | succ k ih =>
    by_cases e : w k = some l
    · rw [zl_Ct e]; omega
    · rw [zl_Cf e]; omega
theorem zl_Cpos {w : Nat → Option Nat} {l s : Nat} (e : w s = some l) : ∀ k, s < k → 0 < zl_C w l k := by
  intro k
  induction k with
  | zero => intro z; exact absurd z (by omega)
  | succ k ih =>
    intro z
    by_cases c : w k = some l
    · rw [zl_Ct c]; omega
    · rw [zl_Cf c]
      by_cases q : s = k
      · rw [q] at e; exact absurd e c
      · exact ih (by omega)
theorem zl_Czero {w : Nat → Option Nat} {l : Nat} : ∀ k, (∀ s, s < k → ¬ w s = some l) → zl_C w l k = 0 := by
  intro k
  induction k with
  | zero => intro _; rfl
  | succ k ih =>
    intro h
    rw [zl_Cf (h k (by omega))]
    exact ih (fun s hs => h s (by omega))
/-! bits of the masks -/
theorem zl_Wb {nx : Nat → Option Nat} {t i : Nat} (hi : i < 32) : ∀ k, k ≤ 32 → (bt (zl_W nx t k) i = true ↔ i < k ∧ zl_d nx 6 i t = true) := by
  intro k
  induction k with
  | zero =>
    intro _
    rw [zl_W0, b_0]
    exact ⟨fun z => absurd z (by simp), fun z => absurd z.1 (by omega)⟩
  | succ k ih =>
    intro hk
    have ih' := ih (by omega)
    by_cases c : zl_d nx 6 k t = true
    · rw [zl_Wt c, b_or, zl_sh k (by omega) i hi, Bool.or_eq_true, decide_eq_true_iff, ih']
      constructor
      · intro z
        rcases z with z | z
        · exact ⟨by omega, z.2⟩
        · subst z; exact ⟨by omega, c⟩
      · intro z
        by_cases e : i = k
        · exact Or.inr e
        · exact Or.inl ⟨by omega, z.2⟩
    · rw [zl_Wf c, ih']
      constructor
      · intro z; exact ⟨by omega, z.2⟩
      · intro z
        refine ⟨?_, z.2⟩
        have : i ≠ k := by
          intro e
          rw [e] at z
          exact c z.2
        have := z.1
        omega
theorem zl_Bb {nx : Nat → Option Nat} {t i : Nat} (hi : i < 32) : ∀ k, k ≤ 32 → (bt (zl_B nx t k) i = true ↔ ∃ p, p < k ∧ nx p = some t ∧ (i = p ∨ (i < 6 ∧ zl_d nx 6 i p = true))) := by
  intro k
  induction k with
  | zero =>
    intro _
    have e : zl_B nx t 0 = 0 := rfl
    rw [e, b_0]
    exact ⟨fun z => absurd z (by simp), fun ⟨p, z, _⟩ => absurd z (by omega)⟩
  | succ k ih =>
    intro hk
    have ih' := ih (by omega)
    by_cases c : nx k = some t
    · rw [zl_Bt c, b_or, b_or, zl_sh k (by omega) i hi, Bool.or_eq_true, Bool.or_eq_true, decide_eq_true_iff, ih', zl_Wb hi 6 (by omega)]
      constructor
      · intro z
        rcases z with (z | z) | z
        · obtain ⟨p, hp, e, q⟩ := z
          exact ⟨p, by omega, e, q⟩
        · exact ⟨k, by omega, c, Or.inl z⟩
        · exact ⟨k, by omega, c, Or.inr z⟩
      · intro z
        obtain ⟨p, hp, e, q⟩ := z
        by_cases ep : p = k
        · subst ep
          rcases q with q | q
          · exact Or.inl (Or.inr q)
          · exact Or.inr q
        · exact Or.inl (Or.inl ⟨p, by omega, e, q⟩)
    · rw [zl_Bf c, ih']
      constructor
      · intro z
        obtain ⟨p, hp, e, q⟩ := z
        exact ⟨p, by omega, e, q⟩
      · intro z
        obtain ⟨p, hp, e, q⟩ := z
        by_cases ep : p = k
        · subst ep
          exact absurd e c
        · exact ⟨p, by omega, e, q⟩
theorem zl_WB {nx : Nat → Option Nat} (hA : zl_A nx) (t : Nat) : zl_W nx t 6 = zl_B nx t 6 := by
  apply b_ext
  intro i hi
  rw [Bool.eq_iff_iff, zl_Wb hi 6 (by omega), zl_Bb hi 6 (by omega)]
  constructor
  · intro z
    obtain ⟨p, hp, e, q⟩ := (zl_dR hA z.1).mp z.2
    rcases q with q | q
    · exact ⟨p, hp, e, Or.inl q⟩
    · exact ⟨p, hp, e, Or.inr ⟨z.1, q⟩⟩
  · intro z
    obtain ⟨p, hp, e, q⟩ := z
    rcases q with q | q
    · subst q
      exact ⟨hp, (zl_dR hA hp).mpr ⟨i, hp, e, Or.inl rfl⟩⟩
    · exact ⟨q.1, (zl_dR hA q.1).mpr ⟨p, hp, e, Or.inr q.2⟩⟩
theorem zl_Bi {nx : Nat → Option Nat} (hA : zl_A nx) {t : Nat} (ht : t < 6) : bt (zl_B nx t 6) t = false := by
  rw [← zl_WB hA t]
  cases e : bt (zl_W nx t 6) t with
  | false => rfl
  | true =>
    have z := ((zl_Wb (by omega) 6 (by omega)).mp e).2
    rw [zl_dI hA ht] at z
    exact absurd z (by simp)
theorem zl_Fb {b u : Nat → Nat} {i : Nat} (hi : i < 32) : ∀ k, k ≤ 32 → (bt (zl_F b u k) i = true ↔ i < k ∧ b i < u i) := by
  intro k
  induction k with
  | zero =>
    intro _
    have e : zl_F b u 0 = 0 := rfl
    rw [e, b_0]
    exact ⟨fun z => absurd z (by simp), fun z => absurd z.1 (by omega)⟩
  | succ k ih =>
    intro hk
    have ih' := ih (by omega)
    by_cases c : b k < u k
    · rw [zl_Ft c, b_or, zl_sh k (by omega) i hi, Bool.or_eq_true, decide_eq_true_iff, ih']
      constructor
      · intro z
        rcases z with z | z
        · exact ⟨by omega, z.2⟩
        · subst z; exact ⟨by omega, c⟩
      · intro z
        by_cases e : i = k
        · exact Or.inr e
        · exact Or.inl ⟨by omega, z.2⟩
    · rw [zl_Ff c, ih']
      constructor
      · intro z; exact ⟨by omega, z.2⟩
      · intro z
        refine ⟨?_, z.2⟩
        have : i ≠ k := by
          intro e
          rw [e] at z
          exact c z.2
        have := z.1
        omega
/-! the thread that runs -/
def zl_R (u : Nat → Nat) (w : Nat → Option Nat) : Nat → Option Nat
  | 0 => none
  | k + 1 => if w k = none then (match zl_R u w k with
      | none => some k
      | some r => if u r < u k then some k else some r) else zl_R u w k
theorem zl_Rs {u : Nat → Nat} {w : Nat → Option Nat} {k l : Nat} (e : w k = some l) : zl_R u w (k + 1) = zl_R u w k := if_neg (by rw [e]; simp)
theorem zl_R0 {u : Nat → Nat} {w : Nat → Option Nat} {k : Nat} (e : w k = none) (z : zl_R u w k = none) : zl_R u w (k + 1) = some k := by
  rw [zl_R.eq_def]
  dsimp only
  rw [if_pos e, z]
theorem zl_R1 {u : Nat → Nat} {w : Nat → Option Nat} {k r : Nat} (e : w k = none) (z : zl_R u w k = some r) (c : u r < u k) : zl_R u w (k + 1) = some k := by
  rw [zl_R.eq_def]
  dsimp only
  rw [if_pos e, z]
  exact if_pos c
theorem zl_R2 {u : Nat → Nat} {w : Nat → Option Nat} {k r : Nat} (e : w k = none) (z : zl_R u w k = some r) (c : ¬ u r < u k) : zl_R u w (k + 1) = some r := by
  rw [zl_R.eq_def]
  dsimp only
  rw [if_pos e, z]
  exact if_neg c
theorem zl_Rlt {u : Nat → Nat} {w : Nat → Option Nat} : ∀ k r, zl_R u w k = some r → r < k := by
  intro k
  induction k with
  | zero => intro r z; exact absurd (show (none : Option Nat) = some r from z) (by simp)
  | succ k ih =>
    intro r z
    cases e : w k with
    | some l => rw [zl_Rs e] at z; have := ih r z; omega
    | none =>
      cases q : zl_R u w k with
      | none =>
        rw [zl_R0 e q] at z
        have := Option.some.inj z
        omega
      | some r' =>
        have h1 := ih r' q
        by_cases c : u r' < u k
        · rw [zl_R1 e q c] at z
          have := Option.some.inj z
          omega
        · rw [zl_R2 e q c] at z
          have := Option.some.inj z
          omega
theorem zl_Rnone {u : Nat → Nat} {w : Nat → Option Nat} : ∀ k, zl_R u w k = none → ∀ t, t < k → w t ≠ none := by
  intro k
  induction k with
  | zero => intro _ t ht; exact absurd ht (by omega)
  | succ k ih =>
    intro z t ht
    cases e : w k with
    | some l =>
      rw [zl_Rs e] at z
      by_cases c : t = k
      · rw [c, e]; simp
      · exact ih z t (by omega)
    | none =>
      cases q : zl_R u w k with
      | none => rw [zl_R0 e q] at z; exact absurd z (by simp)
      | some r =>
        by_cases c : u r < u k
        · rw [zl_R1 e q c] at z; exact absurd z (by simp)
        · rw [zl_R2 e q c] at z; exact absurd z (by simp)
/-! the best of those that wait for a lock -/
def zl_P (u : Nat → Nat) (w : Nat → Option Nat) (l k : Nat) (o : Option Nat) : Prop := (o = none → ∀ s, s < k → ¬ w s = some l) ∧ (∀ r, o = some r → r < k ∧ w r = some l ∧ ∀ s, s < k → w s = some l → u s ≤ u r)
theorem zl_P0 {u : Nat → Nat} {w : Nat → Option Nat} {l : Nat} : zl_P u w l 0 none := ⟨fun _ s hs => absurd hs (by omega), fun r z => absurd z (by simp)⟩
theorem zl_Pskip {u : Nat → Nat} {w : Nat → Option Nat} {l k : Nat} {o : Option Nat} (h : zl_P u w l k o) (c : ¬ w k = some l) : zl_P u w l (k + 1) o := by
  refine ⟨fun z s hs => ?_, fun r z => ?_⟩
  · by_cases e : s = k
    · rw [e]; exact c
    · exact h.1 z s (by omega)
  · obtain ⟨h1, h2, h3⟩ := h.2 r z
    refine ⟨by omega, h2, fun s hs q => ?_⟩
    by_cases e : s = k
    · rw [e] at q; exact absurd q c
    · exact h3 s (by omega) q
theorem zl_Pold {u : Nat → Nat} {w : Nat → Option Nat} {l k r : Nat} (h : zl_P u w l k (some r)) (c : u k ≤ u r) : zl_P u w l (k + 1) (some r) := by
  refine ⟨fun z => absurd z (by simp), fun r' z => ?_⟩
  have e := Option.some.inj z
  subst e
  obtain ⟨h1, h2, h3⟩ := h.2 r rfl
  refine ⟨by omega, h2, fun s hs q => ?_⟩
  by_cases e : s = k
  · rw [e]; exact c
  · exact h3 s (by omega) q
theorem zl_Pnew {u : Nat → Nat} {w : Nat → Option Nat} {l k : Nat} {o : Option Nat} (h : zl_P u w l k o) (e : w k = some l) (c : ∀ r, o = some r → u r ≤ u k) : zl_P u w l (k + 1) (some k) := by
  refine ⟨fun z => absurd z (by simp), fun r' z => ?_⟩
  have ez := Option.some.inj z
  subst ez
  refine ⟨by omega, e, fun s hs q => ?_⟩
  by_cases es : s = k
  · rw [es]; exact Nat.le_refl _
  · cases o with
    | none => exact absurd q (h.1 rfl s (by omega))
    | some r =>
      have h3 := (h.2 r rfl).2.2 s (by omega) q
      have := c r rfl
      omega
/-! ===== the picture ===== -/
def zl_K (b u : Nat → Nat) (w h : Nat → Option Nat) (a1 a2 a3 a5 : Nat → Int32) : Prop := (∀ t, t < 6 → b t ≤ 9 ∧ a1 t = nI (b t)) ∧ (∀ t, t < 6 → u t ≤ 9 ∧ a2 t = nI (u t)) ∧ (∀ t, t < 6 → a3 t = zl_e (w t) ∧ ∀ l, w t = some l → l < 5 ∧ ∃ s, h l = some s) ∧ (∀ l, l < 5 → a5 l = zl_e (h l) ∧ ∀ s, h l = some s → s < 6)
def zl_Q (nx : Nat → Option Nat) (b u : Nat → Nat) (t : Nat) : Prop := u t = zl_L nx u t (b t) 6
def zl_I (a1 a2 a3 a5 : Nat → Int32) : Prop := ∃ b u w h, zl_K b u w h a1 a2 a3 a5 ∧ zl_A (zl_n w h) ∧ ∀ t, t < 6 → zl_Q (zl_n w h) b u t
def zl_J (s : St1) : Prop := zl_I s.2.1 s.2.2.1 s.2.2.2.1 s.2.2.2.2.2
section
variable {b u : Nat → Nat} {w h : Nat → Option Nat} {a1 a2 a3 a5 : Nat → Int32}
theorem zl_at (k : zl_K b u w h a1 a2 a3 a5) {i : Nat} (hi : i < 6) : (w i = none ∧ a3 i = -1 ∧ zl_n w h i = none) ∨ (∃ l s, l < 5 ∧ s < 6 ∧ w i = some l ∧ h l = some s ∧ a3 i = nI l ∧ a5 l = nI s ∧ zl_n w h i = some s) := by
  obtain ⟨k1, k2⟩ := k.2.2.1 i hi
  cases e : w i with
  | none =>
    rw [e] at k1
    exact Or.inl ⟨rfl, k1, zl_nn e⟩
  | some l =>
    rw [e] at k1
    obtain ⟨hl, s, hs⟩ := k2 l e
    obtain ⟨k3, k4⟩ := k.2.2.2 l hl
    rw [hs] at k3
    exact Or.inr ⟨l, s, hl, k4 s hs, rfl, hs, k1, k3, by rw [zl_ns e, hs]⟩
theorem zl_hd (k : zl_K b u w h a1 a2 a3 a5) {l : Nat} (hl : l < 5) : (h l = none ∧ a5 l = -1) ∨ (∃ s, s < 6 ∧ h l = some s ∧ a5 l = nI s) := by
  obtain ⟨k1, k2⟩ := k.2.2.2 l hl
  cases e : h l with
  | none =>
    rw [e] at k1
    exact Or.inl ⟨rfl, k1⟩
  | some s =>
    rw [e] at k1
    exact Or.inr ⟨s, k2 s e, rfl, k1⟩
theorem zl_Ku (k : zl_K b u w h a1 a2 a3 a5) {s v : Nat} (hs : s < 6) (hv : v ≤ 9) : zl_K b (zl_p u s v) w h a1 (upd a2 (nI s).toNatClampNeg (nI v).toInt8.toInt32) a3 a5 := by
  refine ⟨k.1, fun t ht => ?_, k.2.2⟩
  rw [nI_clamp (show s < 2 ^ 31 by omega), zl_b8 v (by omega)]
  by_cases c : t = s
  · rw [c, zl_ps, pk_us]
    exact ⟨hv, rfl⟩
  · rw [zl_pn c, pk_un c]
    exact k.2.1 t ht
theorem zl_Kb (k : zl_K b u w h a1 a2 a3 a5) {s v : Nat} (hs : s < 6) (hv : v ≤ 9) : zl_K (zl_p b s v) u w h (upd a1 (nI s).toNatClampNeg (nI v).toInt8.toInt32) a2 a3 a5 := by
  refine ⟨fun t ht => ?_, k.2⟩
  rw [nI_clamp (show s < 2 ^ 31 by omega), zl_b8 v (by omega)]
  by_cases c : t = s
  · rw [c, zl_ps, pk_us]
    exact ⟨hv, rfl⟩
  · rw [zl_pn c, pk_un c]
    exact k.1 t ht
/-- a thread goes to wait -/
theorem zl_Kw (k : zl_K b u w h a1 a2 a3 a5) {t l s : Nat} (hl : l < 5) (hs : h l = some s) : zl_K b u (zl_p w t (some l)) h a1 a2 (upd a3 t (nI l).toInt8.toInt32) a5 := by
  refine ⟨k.1, k.2.1, fun x hx => ?_, k.2.2.2⟩
  rw [zl_b8 l (by omega)]
  by_cases c : x = t
  · rw [c, zl_ps, pk_us]
    refine ⟨rfl, fun l' e => ?_⟩
    have := Option.some.inj e
    subst this
    exact ⟨hl, s, hs⟩
  · rw [zl_pn c, pk_un c]
    exact k.2.2.1 x hx
/-- a thread waits no more -/
theorem zl_Kn (k : zl_K b u w h a1 a2 a3 a5) {t : Nat} : zl_K b u (zl_p w t none) h a1 a2 (upd a3 t (-1)) a5 := by
  refine ⟨k.1, k.2.1, fun x hx => ?_, k.2.2.2⟩
  by_cases c : x = t
  · rw [c, zl_ps, pk_us]
    exact ⟨rfl, fun l' e => absurd e (by simp)⟩
  · rw [zl_pn c, pk_un c]
    exact k.2.2.1 x hx
/-- a lock gets a holder -/
theorem zl_Kh (k : zl_K b u w h a1 a2 a3 a5) {l s : Nat} (hs : s < 6) : zl_K b u w (zl_p h l (some s)) a1 a2 a3 (upd a5 l (nI s).toInt8.toInt32) := by
  refine ⟨k.1, k.2.1, fun x hx => ?_, fun x hx => ?_⟩
  · obtain ⟨k1, k2⟩ := k.2.2.1 x hx
    refine ⟨k1, fun l' e => ?_⟩
    obtain ⟨k3, k4⟩ := k2 l' e
    refine ⟨k3, ?_⟩
    by_cases c : l' = l
    · rw [c, zl_ps]; exact ⟨s, rfl⟩
    · rw [zl_pn c]; exact k4
  · rw [zl_b8 s (by omega)]
    by_cases c : x = l
    · rw [c, zl_ps, pk_us]
      refine ⟨rfl, fun s' e => ?_⟩
      have := Option.some.inj e
      omega
    · rw [zl_pn c, pk_un c]
      exact k.2.2.2 x hx
/-- a lock that nobody waits for is let go -/
theorem zl_Kf (k : zl_K b u w h a1 a2 a3 a5) {l : Nat} (hn : ∀ s, s < 6 → ¬ w s = some l) : zl_K b u w (zl_p h l none) a1 a2 a3 (upd a5 l (-1 : Int32).toInt8.toInt32) := by
  refine ⟨k.1, k.2.1, fun x hx => ?_, fun x hx => ?_⟩
  · obtain ⟨k1, k2⟩ := k.2.2.1 x hx
    refine ⟨k1, fun l' e => ?_⟩
    obtain ⟨k3, k4⟩ := k2 l' e
    refine ⟨k3, ?_⟩
    by_cases c : l' = l
    · rw [c] at e; exact absurd e (hn x hx)
    · rw [zl_pn c]; exact k4
  · rw [zl_b8m]
    by_cases c : x = l
    · rw [c, zl_ps, pk_us]
      exact ⟨rfl, fun s' e => absurd e (by simp)⟩
    · rw [zl_pn c, pk_un c]
      exact k.2.2.2 x hx
/-- some thread doesn't wait -/
theorem zl_free (k : zl_K b u w h a1 a2 a3 a5) (hA : zl_A (zl_n w h)) : ∃ t, t < 6 ∧ w t = none := by
  obtain ⟨rk, h6, hD⟩ := hA
  have main : ∀ m t, t < 6 → rk t < m → ∃ t, t < 6 ∧ w t = none := by
    intro m
    induction m with
    | zero => intro t _ z; exact absurd z (by omega)
    | succ m ih =>
      intro t ht hm
      rcases zl_at k ht with ⟨e, _⟩ | ⟨l, s, hl, hs, e1, e2, e3, e4, e5⟩
      · exact ⟨t, ht, e⟩
      · have := (hD t s ht e5).2
        exact ih s hs (by omega)
  exact main (rk 0 + 1) 0 (by omega) (by omega)
end
end
section
/-! ===== the methods that only look ===== -/
theorem zl_isT {post : Int32 → Prop} {p : Int32} (h0 : post 0) (h1 : ∀ t, t < 6 → p = nI t → post 1) : wpX_isThread post () p := by
  refine br_c (fun _ => h0) (fun g => br_c (fun _ => h0) (fun g2 => ?_))
  obtain ⟨j, hj, rfl⟩ := nI_of g
  refine h1 j (Nat.not_le.mp (fun z => g2 ?_)) rfl
  exact nI_le (a := 6) z hj
theorem zl_isL {post : Int32 → Prop} {p : Int32} (h0 : post 0) (h1 : ∀ l, l < 5 → p = nI l → post 1) : wpX_isLock post () p := by
  refine br_c (fun _ => h0) (fun g => br_c (fun _ => h0) (fun g2 => ?_))
  obtain ⟨j, hj, rfl⟩ := nI_of g
  refine h1 j (Nat.not_le.mp (fun z => g2 ?_)) rfl
  exact nI_le (a := 5) z hj
theorem zl_isTt {post : Int32 → Prop} {t : Nat} (ht : t < 6) (h1 : post 1) : wpX_isThread post () (nI t) :=
  br_f (nI_pos (by omega)) (br_f (nI_ge (b := 6) ht (by decide)) h1)
theorem zl_isLt {post : Int32 → Prop} {l : Nat} (hl : l < 5) (h1 : post 1) : wpX_isLock post () (nI l) :=
  br_f (nI_pos (by omega)) (br_f (nI_ge (b := 5) hl (by decide)) h1)
section
variable {st : Int32} {b u : Nat → Nat} {w h : Nat → Option Nat} {a1 a2 a3 a4 a5 : Nat → Int32}
theorem zl_urg {post : Int32 → Prop} {t : Nat} (k : zl_K b u w h a1 a2 a3 a5) (ht : t < 6) (hp : post (nI (u t))) : wpX_urgency post (st, a1, a2, a3, a4, a5) (nI t) := by
  unfold wpX_urgency
  dsimp only
  exact zl_isTt ht (br_f zl_one ⟨pk_in t 6 ht, by rw [nI_clamp (by omega), (k.2.1 t ht).2]; exact hp⟩)
theorem zl_bas {post : Int32 → Prop} {t : Nat} (k : zl_K b u w h a1 a2 a3 a5) (ht : t < 6) (hp : post (nI (b t))) : wpX_base post (st, a1, a2, a3, a4, a5) (nI t) := by
  unfold wpX_base
  dsimp only
  exact zl_isTt ht (br_f zl_one ⟨pk_in t 6 ht, by rw [nI_clamp (by omega), (k.1 t ht).2]; exact hp⟩)
theorem zl_wts {post : Int32 → Prop} {t : Nat} (k : zl_K b u w h a1 a2 a3 a5) (ht : t < 6) (hp : post (zl_e (w t))) : wpX_waitsFor post (st, a1, a2, a3, a4, a5) (nI t) := by
  unfold wpX_waitsFor
  dsimp only
  exact zl_isTt ht (br_f zl_one ⟨pk_in t 6 ht, by rw [nI_clamp (by omega), (k.2.2.1 t ht).1]; exact hp⟩)
theorem zl_hol {post : Int32 → Prop} {l : Nat} (k : zl_K b u w h a1 a2 a3 a5) (hl : l < 5) (hp : post (zl_e (h l))) : wpX_holder post (st, a1, a2, a3, a4, a5) (nI l) := by
  unfold wpX_holder
  dsimp only
  exact zl_isLt hl (br_f zl_one ⟨pk_in l 5 hl, by rw [nI_clamp (by omega), (k.2.2.2 l hl).1]; exact hp⟩)
/-! lent -/
theorem zl_lent {post : Int32 → Prop} {t : Nat} (k : zl_K b u w h a1 a2 a3 a5) (ht : t < 6) (hp : post (nI (zl_L (zl_n w h) u t (b t) 6))) : wpX_lent post (st, a1, a2, a3, a4, a5) (nI t) := by
  have hb := k.1 t ht
  refine ⟨pk_in t 6 ht, nm_r (e' := nI (b t)) (by rw [nI_clamp (by omega)]; exact hb.2) ?_⟩
  refine pk_loop (σ := Unit) (fun n i _ => wX_lent_9 post (nI t) st a1 a2 a3 a4 a5 n (nI (zl_L (zl_n w h) u t (b t) i)) (nI i)) (fun _ _ => True) 6 0 () (by omega) trivial ?_ ?_
  · intro n _ _
    exact pk_le 6 6 (fun _ => hp) (fun z => absurd z (by omega))
  · intro n i _ hi _ hw
    have T : wX_lent_9 post (nI t) st a1 a2 a3 a4 a5 n (nI (zl_L (zl_n w h) u t (b t) (i + 1))) (nI (i + 1)) := hw () trivial
    have l9 := zl_L9 (nx := zl_n w h) (t := t) hb.1 (fun j hj => (k.2.1 j hj).1) i (by omega)
    obtain ⟨u9, ua⟩ := k.2.1 i hi
    show wX_lent_9 post (nI t) st a1 a2 a3 a4 a5 (n + 1) (nI (zl_L (zl_n w h) u t (b t) i)) (nI i)
    refine pk_le 6 i (fun z => absurd z (by omega)) (fun _ => ⟨pk_in i 6 hi, ?_⟩)
    have ci : (nI i).toNatClampNeg = i := nI_clamp (by omega)
    rw [ci]
    rcases zl_at k hi with ⟨e1, e2, e3⟩ | ⟨l, s, hl, hs, e1, e2, e3, e4, e5⟩
    · rw [e2]
      rw [zl_Ln (by rw [e3]; simp)] at T
      exact br_t zl_neg (br_t rfl (nm_r (nI_1 i) T))
    · rw [e3]
      have cl : (nI l).toNatClampNeg = l := nI_clamp (by omega)
      rw [cl, e4]
      refine br_f (nI_pos (by omega)) ⟨pk_in i 6 hi, pk_in l 5 hl, pk_eq s t (fun z => ?_) (fun z => ?_)⟩
      · unfold wX_lent_44
        rw [ci, ua]
        refine br_f zl_one ⟨pk_in i 6 hi, pk_le (u i) (zl_L (zl_n w h) u t (b t) i) (fun z2 => ?_) (fun z2 => ⟨pk_in i 6 hi, ?_⟩)⟩
        · rw [zl_Lq (by omega)] at T
          exact nm_r (nI_1 i) T
        · rw [zl_Lp (by rw [e5, z]) z2] at T
          exact nm_e (nm_r (nI_1 i) T)
      · rw [zl_Ln (by rw [e5]; simp [z])] at T
        exact br_t rfl (nm_r (nI_1 i) T)
/-! refresh -/
theorem zl_stop {post : St1 → Prop} {n : Nat} {x : Int32} (hp : post (st, a1, a2, a3, a4, a5)) : wX_refresh_4 post st (n + 1) (-1) x a1 a2 a3 a4 a5 :=
  br_c (fun _ => hp) (fun _ => br_t zl_neg hp)
theorem zl_ref4 {post : St1 → Prop} {X : Nat → Prop} {rk : Nat → Nat} (hA : zl_A (zl_n w h)) (hD : zl_D rk (zl_n w h))
    (H : ∀ u' a2', zl_K b u' w h a1 a2' a3 a5 → (∀ t, t < 6 → ¬ X t → zl_Q (zl_n w h) b u' t) → post (st, a1, a2', a3, a4, a5)) :
    ∀ m s i u a2, s < 6 → rk s < m → i + m ≤ 6 → zl_K b u w h a1 a2 a3 a5 → (∀ t, t < 6 → ¬ X t → t ≠ s → zl_Q (zl_n w h) b u t) → wX_refresh_4 post st (m + 1) (nI s) (nI i) a1 a2 a3 a4 a5 := by
  intro m
  induction m with
  | zero => intro s i u a2 _ z; exact absurd z (by omega)
  | succ m ih =>
    intro s i u a2 hs hr hi k hE
    have l9 := zl_L9 (nx := zl_n w h) (t := s) (k.1 s hs).1 (fun j hj => (k.2.1 j hj).1) 6 (by omega)
    obtain ⟨u9, ua⟩ := k.2.1 s hs
    have cs : (nI s).toNatClampNeg = s := nI_clamp (by omega)
    have hns : zl_n w h s ≠ some s := fun z => zl_Ai hA hs z rfl
    have U := zl_Eup (X := X) (b := b) (v := zl_L (zl_n w h) u s (b s) 6) rfl hns hE
    have K' := zl_Ku k hs l9
    refine pk_le 6 i (fun z => absurd z (by omega)) (fun _ => br_f (nI_pos (by omega)) (zl_lent k hs ⟨pk_in s 6 hs, pk_eq (zl_L (zl_n w h) u s (b s) 6) (u s) (fun z => ?_) (fun z => ?_) rfl (by rw [cs]; exact ua)⟩))
    · exact ⟨pk_in s 6 hs, nm_e (br_f zl_one (nm_r (nI_1 i) (zl_stop (H _ _ K' (fun t ht hX => U t ht hX (fun _ => z))))))⟩
    · refine ⟨pk_in s 6 hs, nm_e (br_t rfl ⟨pk_in s 6 hs, ?_⟩)⟩
      rw [cs] at K'
      rw [cs]
      rcases zl_at k hs with ⟨e1, e2, e3⟩ | ⟨l, s', hl, hs', e1, e2, e3, e4, e5⟩
      · rw [e2]
        exact br_f zl_nneg (nm_r (nI_1 i) (zl_stop (H _ _ K' (fun t ht hX => U t ht hX (fun q => absurd (e3.symm.trans q) (by simp))))))
      · rw [e3]
        have cl : (nI l).toNatClampNeg = l := nI_clamp (by omega)
        rw [cl, e4]
        have := (hD s s' hs e5).2
        refine br_t (nI_pos' (by omega)) ⟨pk_in s 6 hs, pk_in l 5 hl, nm_e (nm_r (nI_1 i) (ih s' (i + 1) _ _ hs' (by omega) (by omega) K' (fun t ht hX hn => U t ht hX (fun q => ?_))))⟩
        exact absurd (Option.some.inj (e5.symm.trans q)).symm hn
theorem zl_ref {post : St1 → Prop} {X : Nat → Prop} {s : Nat} (k : zl_K b u w h a1 a2 a3 a5) (hA : zl_A (zl_n w h)) (hs : s < 6) (hE : ∀ t, t < 6 → ¬ X t → t ≠ s → zl_Q (zl_n w h) b u t)
    (H : ∀ u' a2', zl_K b u' w h a1 a2' a3 a5 → (∀ t, t < 6 → ¬ X t → zl_Q (zl_n w h) b u' t) → post (st, a1, a2', a3, a4, a5)) : wpX_refresh post (st, a1, a2, a3, a4, a5) (nI s) := by
  have hA' := hA
  obtain ⟨rk, h6, hD⟩ := hA'
  exact ⟨7, zl_ref4 hA hD H 6 s 0 u a2 hs (h6 s hs) (by omega) k hE⟩
/-! dependsOn -/
theorem zl_dep5 {post : Int32 → Prop} {o : Nat} (k : zl_K b u w h a1 a2 a3 a5) (ho : o < 6) : ∀ m s i, s < 6 → i + m = 6 → (zl_d (zl_n w h) m s o = true → post 1) → (zl_d (zl_n w h) m s o = false → post 0) → wX_dependsOn_5 post (nI o) st a1 a2 a3 a4 a5 (m + 1) (nI s) (nI i) := by
  intro m
  induction m with
  | zero =>
    intro s i hs hi h1 h0
    exact pk_le 6 i (fun _ => h0 rfl) (fun z => absurd z (by omega))
  | succ m ih =>
    intro s i hs hi h1 h0
    refine pk_le 6 i (fun z => absurd z (by omega)) (fun _ => ⟨pk_in s 6 hs, ?_⟩)
    have cs : (nI s).toNatClampNeg = s := nI_clamp (by omega)
    rw [cs]
    rcases zl_at k hs with ⟨e1, e2, e3⟩ | ⟨l, s', hl, hs', e1, e2, e3, e4, e5⟩
    · rw [e2]
      exact br_t zl_neg (h0 (zl_dn e3 _ _))
    · rw [e3]
      have cl : (nI l).toNatClampNeg = l := nI_clamp (by omega)
      rw [cl, e4]
      rw [zl_ds e5] at h1 h0
      refine br_f (nI_pos (by omega)) ⟨pk_in s 6 hs, pk_in l 5 hl, nm_e (pk_eq s' o (fun z => h1 ?_) (fun z => nm_r (nI_1 i) (ih s' (i + 1) hs' (by omega) (fun d => h1 ?_) (fun d => h0 ?_))))⟩
      · rw [decide_eq_true z, Bool.true_or]
      · rw [d, Bool.or_true]
      · rw [d, decide_eq_false z]; rfl
theorem zl_dep {post : Int32 → Prop} {s o : Nat} (k : zl_K b u w h a1 a2 a3 a5) (hs : s < 6) (ho : o < 6) (h1 : zl_d (zl_n w h) 6 s o = true → post 1) (h0 : zl_d (zl_n w h) 6 s o = false → post 0) : wpX_dependsOn post (st, a1, a2, a3, a4, a5) (nI s) (nI o) :=
  ⟨7, zl_dep5 k ho 6 s 0 hs (by omega) h1 h0⟩
/-! bestWaiting -/
theorem zl_best {post : Int32 → Prop} {l : Nat} (k : zl_K b u w h a1 a2 a3 a5) (hl : l < 5) (H : ∀ o, zl_P u w l 6 o → post (zl_e o)) : wpX_bestWaiting post (st, a1, a2, a3, a4, a5) (nI l) := by
  refine pk_loop (fun n i o => wX_bestWaiting_4 post (nI l) st a1 a2 a3 a4 a5 n (zl_e o) (nI i)) (fun i o => zl_P u w l i o) 6 0 none (by omega) zl_P0 ?_ ?_
  · intro n o hP
    exact pk_le 6 6 (fun _ => H o hP) (fun z => absurd z (by omega))
  · intro n i o hi hP hw
    show wX_bestWaiting_4 post (nI l) st a1 a2 a3 a4 a5 (n + 1) (zl_e o) (nI i)
    have hw' : ∀ o', zl_P u w l (i + 1) o' → wX_bestWaiting_4 post (nI l) st a1 a2 a3 a4 a5 n (zl_e o') (nI (i + 1)) := hw
    have ci : (nI i).toNatClampNeg = i := nI_clamp (by omega)
    obtain ⟨u9, ua⟩ := k.2.1 i hi
    refine pk_le 6 i (fun z => absurd z (by omega)) (fun _ => ⟨pk_in i 6 hi, ?_⟩)
    rw [ci]
    rcases zl_at k hi with ⟨e1, e2, e3⟩ | ⟨l', s, hl', hs, e1, e2, e3, e4, e5⟩
    · rw [e2]
      exact br_f (zl_m1 (by omega)) (nm_r (nI_1 i) (hw' o (zl_Pskip hP (by rw [e1]; simp))))
    · rw [e3]
      refine pk_eq l' l (fun z => ?_) (fun z => nm_r (nI_1 i) (hw' o (zl_Pskip hP (by rw [e1]; simp [z]))))
      subst z
      cases o with
      | none => exact br_t zl_neg (br_t zl_neg (br_f zl_one (nm_r (nI_1 i) (hw' (some i) (zl_Pnew hP e1 (fun r q => absurd q (by simp)))))))
      | some r =>
        have hr6 : r < 6 := by have := (hP.2 r rfl).1; omega
        obtain ⟨v9, va⟩ := k.2.1 r hr6
        have cr : (nI r).toNatClampNeg = r := nI_clamp (by omega)
        have N : u r ≤ u i → wX_bestWaiting_4 post (nI l') st a1 a2 a3 a4 a5 n (nI i) (nI (i + 1)) := fun q => hw' (some i) (zl_Pnew hP e1 (fun r' q' => by have := Option.some.inj q'; subst this; exact q))
        have O : u i ≤ u r → wX_bestWaiting_4 post (nI l') st a1 a2 a3 a4 a5 n (nI r) (nI (i + 1)) := fun q => hw' (some r) (zl_Pold hP q)
        rw [zl_es, cr, ua, va]
        refine br_f (nI_pos (by omega)) ⟨pk_in i 6 hi, pk_in r 6 hr6, pk_le (u i) (u r) (fun q => ?_) (fun q => ?_)⟩
        · unfold wX_bestWaiting_44
          rw [ci, cr, ua, va]
          refine br_f (nI_pos (by omega)) ⟨pk_in i 6 hi, pk_in r 6 hr6, pk_eq (u i) (u r) (fun q2 => ⟨pk_in i 6 hi, pk_in r 6 hr6, br_c (fun _ => ?_) (fun _ => ?_)⟩) (fun q2 => ?_)⟩
          · exact br_t rfl (br_t rfl (nm_r (nI_1 i) (O q)))
          · exact br_t rfl (br_f zl_one (nm_r (nI_1 i) (N (by omega))))
          · exact br_t rfl (br_t rfl (nm_r (nI_1 i) (O q)))
        · unfold wX_bestWaiting_39 wX_bestWaiting_44
          rw [ci, cr, ua, va]
          refine br_f (nI_pos (by omega)) ⟨pk_in i 6 hi, pk_in r 6 hr6, pk_eq (u i) (u r) (fun q2 => absurd q2 (by omega)) (fun q2 => ?_)⟩
          exact br_f zl_one (nm_r (nI_1 i) (N (by omega)))
theorem zl_next {post : Int32 → Prop} {l : Nat} (k : zl_K b u w h a1 a2 a3 a5) (hl : l < 5) (H : ∀ o, zl_P u w l 6 o → post (zl_e o)) : wpX_nextFor post (st, a1, a2, a3, a4, a5) (nI l) := by
  unfold wpX_nextFor
  dsimp only
  exact zl_isLt hl (br_f zl_one (zl_best k hl H))
/-! waiting -/
theorem zl_wait {post : Int32 → Prop} {l : Nat} (k : zl_K b u w h a1 a2 a3 a5) (hl : l < 5) (hp : post (nI (zl_C w l 6))) : wpX_waiting post (st, a1, a2, a3, a4, a5) (nI l) := by
  refine pk_loop (σ := Unit) (fun n i _ => wX_waiting_4 post (nI l) st a1 a2 a3 a4 a5 n (nI (zl_C w l i)) (nI i)) (fun _ _ => True) 6 0 () (by omega) trivial ?_ ?_
  · intro n _ _
    exact pk_le 6 6 (fun _ => hp) (fun z => absurd z (by omega))
  · intro n i _ hi _ hw
    have T : wX_waiting_4 post (nI l) st a1 a2 a3 a4 a5 n (nI (zl_C w l (i + 1))) (nI (i + 1)) := hw () trivial
    show wX_waiting_4 post (nI l) st a1 a2 a3 a4 a5 (n + 1) (nI (zl_C w l i)) (nI i)
    refine pk_le 6 i (fun z => absurd z (by omega)) (fun _ => zl_isLt hl (br_f zl_one ⟨pk_in i 6 hi, ?_⟩))
    have ci : (nI i).toNatClampNeg = i := nI_clamp (by omega)
    have a0 : nI (zl_C w l i) + 0 = nI (zl_C w l i) := Int32.add_zero _
    rw [ci]
    rcases zl_at k hi with ⟨e1, e2, e3⟩ | ⟨l', s, hl', hs, e1, e2, e3, e4, e5⟩
    · rw [e2]
      rw [zl_Cf (by rw [e1]; simp)] at T
      exact br_f (zl_m1 (by omega)) (nm_r a0 (nm_r (nI_1 i) T))
    · rw [e3]
      refine pk_eq l' l (fun z => ?_) (fun z => ?_)
      · rw [zl_Ct (by rw [e1, z])] at T
        exact nm_r (nI_1 _) (nm_r (nI_1 i) T)
      · rw [zl_Cf (by rw [e1]; simp [z])] at T
        exact nm_r a0 (nm_r (nI_1 i) T)
/-! held -/
theorem zl_held {post : Int32 → Prop} {t : Nat} (k : zl_K b u w h a1 a2 a3 a5) (ht : t < 6) (hp : post (zl_H h t 5)) : wpX_held post (st, a1, a2, a3, a4, a5) (nI t) := by
  refine pk_loop (σ := Unit) (fun n i _ => wX_held_4 post (nI t) st a1 a2 a3 a4 a5 n (zl_H h t i) (nI i)) (fun _ _ => True) 5 0 () (by omega) trivial ?_ ?_
  · intro n _ _
    exact pk_le 5 5 (fun _ => hp) (fun z => absurd z (by omega))
  · intro n i _ hi _ hw
    have T : wX_held_4 post (nI t) st a1 a2 a3 a4 a5 n (zl_H h t (i + 1)) (nI (i + 1)) := hw () trivial
    show wX_held_4 post (nI t) st a1 a2 a3 a4 a5 (n + 1) (zl_H h t i) (nI i)
    refine pk_le 5 i (fun z => absurd z (by omega)) (fun _ => zl_isTt ht (br_f zl_one ⟨pk_in i 5 hi, ?_⟩))
    have ci : (nI i).toNatClampNeg = i := nI_clamp (by omega)
    rw [ci]
    rcases zl_hd k hi with ⟨e1, e2⟩ | ⟨s, hs, e1, e2⟩
    · rw [e2]
      rw [zl_Hf (by rw [e1]; simp)] at T
      exact br_f (zl_m1 (by omega)) (nm_r (zl_o0 _) (nm_r (nI_1 i) T))
    · rw [e2]
      refine pk_eq s t (fun z => ?_) (fun z => ?_)
      · rw [zl_Ht (by rw [e1, z])] at T
        exact nm_e (nm_r (nI_1 i) T)
      · rw [zl_Hf (by rw [e1]; simp [z])] at T
        exact nm_r (zl_o0 _) (nm_r (nI_1 i) T)
/-! waitingOn -/
theorem zl_won {post : Int32 → Prop} {t : Nat} (k : zl_K b u w h a1 a2 a3 a5) (ht : t < 6) (hp : post (zl_W (zl_n w h) t 6)) : wpX_waitingOn post (st, a1, a2, a3, a4, a5) (nI t) := by
  refine pk_loop (σ := Unit) (fun n i _ => wX_waitingOn_4 post (nI t) st a1 a2 a3 a4 a5 n (zl_W (zl_n w h) t i) (nI i)) (fun _ _ => True) 6 0 () (by omega) trivial ?_ ?_
  · intro n _ _
    exact pk_le 6 6 (fun _ => hp) (fun z => absurd z (by omega))
  · intro n i _ hi _ hw
    have T : wX_waitingOn_4 post (nI t) st a1 a2 a3 a4 a5 n (zl_W (zl_n w h) t (i + 1)) (nI (i + 1)) := hw () trivial
    show wX_waitingOn_4 post (nI t) st a1 a2 a3 a4 a5 (n + 1) (zl_W (zl_n w h) t i) (nI i)
    refine pk_le 6 i (fun z => absurd z (by omega)) (fun _ => zl_isTt ht (br_f zl_one (zl_dep k hi ht (fun d => ?_) (fun d => ?_))))
    · rw [zl_Wt d] at T
      exact br_f zl_one (nm_e (nm_r (nI_1 i) T))
    · rw [zl_Wf (by rw [d]; simp)] at T
      exact br_t rfl (nm_r (zl_o0 _) (nm_r (nI_1 i) T))
/-! lifted -/
theorem zl_lift {post : Int32 → Prop} (k : zl_K b u w h a1 a2 a3 a5) (hp : post (zl_F b u 6)) : wpX_lifted post (st, a1, a2, a3, a4, a5) := by
  refine pk_loop (σ := Unit) (fun n i _ => wX_lifted_4 post st a1 a2 a3 a4 a5 n (zl_F b u i) (nI i)) (fun _ _ => True) 6 0 () (by omega) trivial ?_ ?_
  · intro n _ _
    exact pk_le 6 6 (fun _ => hp) (fun z => absurd z (by omega))
  · intro n i _ hi _ hw
    have T : wX_lifted_4 post st a1 a2 a3 a4 a5 n (zl_F b u (i + 1)) (nI (i + 1)) := hw () trivial
    show wX_lifted_4 post st a1 a2 a3 a4 a5 (n + 1) (zl_F b u i) (nI i)
    refine pk_le 6 i (fun z => absurd z (by omega)) (fun _ => ⟨pk_in i 6 hi, pk_in i 6 hi, ?_⟩)
    have ci : (nI i).toNatClampNeg = i := nI_clamp (by omega)
    obtain ⟨u9, ua⟩ := k.2.1 i hi
    obtain ⟨b9, ba⟩ := k.1 i hi
    rw [ci, ua, ba]
    refine pk_le (u i) (b i) (fun z => ?_) (fun z => ?_)
    · rw [zl_Ff (by omega)] at T
      exact nm_r (zl_o0 _) (nm_r (nI_1 i) T)
    · rw [zl_Ft z] at T
      exact nm_e (nm_r (nI_1 i) T)
/-! running -/
theorem zl_run {post : Int32 → Prop} (k : zl_K b u w h a1 a2 a3 a5) (hp : post (zl_e (zl_R u w 6))) : wpX_running post (st, a1, a2, a3, a4, a5) := by
  refine pk_loop (σ := Unit) (fun n i _ => wX_running_4 post st a1 a2 a3 a4 a5 n (zl_e (zl_R u w i)) (nI i)) (fun _ _ => True) 6 0 () (by omega) trivial ?_ ?_
  · intro n _ _
    exact pk_le 6 6 (fun _ => hp) (fun z => absurd z (by omega))
  · intro n i _ hi _ hw
    have T : wX_running_4 post st a1 a2 a3 a4 a5 n (zl_e (zl_R u w (i + 1))) (nI (i + 1)) := hw () trivial
    show wX_running_4 post st a1 a2 a3 a4 a5 (n + 1) (zl_e (zl_R u w i)) (nI i)
    refine pk_le 6 i (fun z => absurd z (by omega)) (fun _ => ⟨pk_in i 6 hi, ?_⟩)
    have ci : (nI i).toNatClampNeg = i := nI_clamp (by omega)
    obtain ⟨u9, ua⟩ := k.2.1 i hi
    rw [ci]
    rcases zl_at k hi with ⟨e1, e2, e3⟩ | ⟨l', s, hl', hs, e1, e2, e3, e4, e5⟩
    · rw [e2]
      refine br_f zl_nneg ?_
      cases q : zl_R u w i with
      | none =>
        rw [zl_R0 e1 q] at T
        exact br_t zl_neg (nm_r (nI_1 i) T)
      | some r =>
        have hr := zl_Rlt i r q
        obtain ⟨v9, va⟩ := k.2.1 r (by omega)
        have cr : (nI r).toNatClampNeg = r := nI_clamp (by omega)
        rw [zl_es, cr, ua, va]
        refine br_f (nI_pos (by omega)) ⟨pk_in i 6 hi, pk_in r 6 (by omega), pk_le (u i) (u r) (fun z => ?_) (fun z => ?_)⟩
        · rw [zl_R2 e1 q (by omega)] at T
          exact nm_r (nI_1 i) T
        · rw [zl_R1 e1 q z] at T
          exact nm_r (nI_1 i) T
    · rw [e3]
      rw [zl_Rs e1] at T
      exact br_t (nI_pos' (by omega)) (nm_r (nI_1 i) T)
end
end
section
/-! ===== the four moves keep the invariant ===== -/
section
variable {b u : Nat → Nat} {w h : Nat → Option Nat}
/-- what is due stays due where the waiting ones stay -/
theorem zl_Qc {nx nx' : Nat → Option Nat} {t : Nat} (hq : zl_Q nx b u t) (hn : ∀ j, j < 6 → (nx' j = some t ↔ nx j = some t)) : zl_Q nx' b u t := by
  unfold zl_Q
  rw [zl_Lc (nx := nx) (u := u) 6 (fun j hj => ⟨hn j hj, fun _ => rfl⟩)]
  exact hq
theorem zl_Qb {nx : Nat → Option Nat} {t s v : Nat} (hq : zl_Q nx b u t) (hn : t ≠ s) : zl_Q nx (zl_p b s v) u t := by
  unfold zl_Q
  rw [zl_pn hn]
  exact hq
/-- the graph behind 'w t := o' -/
theorem zl_nw {t x : Nat} {o : Option Nat} (hx : x ≠ t) : zl_n (zl_p w t o) h x = zl_n w h x := by
  unfold zl_n
  rw [zl_pn hx]
theorem zl_nwn {t : Nat} : zl_n (zl_p w t none) h t = none := zl_nn (zl_ps w t none)
theorem zl_nws {t l : Nat} : zl_n (zl_p w t (some l)) h t = h l := zl_ns (zl_ps w t (some l))
/-- the graph behind 'h l := o', for one that doesn't wait at l -/
theorem zl_nh {l x : Nat} {o : Option Nat} (hx : ¬ w x = some l) : zl_n w (zl_p h l o) x = zl_n w h x := by
  cases e : w x with
  | none => rw [zl_nn e, zl_nn e]
  | some l' =>
    rw [zl_ns e, zl_ns e]
    refine zl_pn ?_
    intro z
    rw [z] at e
    exact hx e
theorem zl_nhs {l x : Nat} {o : Option Nat} (hx : w x = some l) : zl_n w (zl_p h l o) x = o := by
  rw [zl_ns hx, zl_ps]
end
theorem zl_base {post : Int32 → St1 → Prop} {s : St1} {p0 p1 : Int32} (H : ∀ r s', zl_J s' → post r s') (hJ : zl_J s) : wpX_setBase post s p0 p1 := by
  obtain ⟨st, a1, a2, a3, a4, a5⟩ := s
  have B : ∀ r, post r (st, a1, a2, a3, a4, a5) := fun r => H r _ hJ
  have hI : zl_I a1 a2 a3 a5 := hJ
  obtain ⟨b, u, w, h, k, hA, hE⟩ := hI
  unfold wpX_setBase
  dsimp only
  refine zl_isT (br_t rfl (B _)) (fun t ht e => br_f zl_one (br_c (fun _ => B _) (fun g => br_c (fun g2 => ?_) (fun _ => B _))))
  subst e
  obtain ⟨v, hv, rfl⟩ := nI_of2 (M := 9) (n := 9) (by decide) g g2
  refine ⟨pk_in t 6 ht, nm_e (zl_ref (X := fun _ => False) (zl_Kb k ht hv) hA ht (fun x hx _ hn => zl_Qb (hE x hx) hn) (fun u' a2' k' e' => H _ _ ⟨_, u', w, h, k', hA, fun x hx => e' x hx (fun z => z)⟩))⟩
theorem zl_giveUp {post : Int32 → St1 → Prop} {s : St1} {p0 : Int32} (H : ∀ r s', zl_J s' → post r s') (hJ : zl_J s) : wpX_giveUp post s p0 := by
  obtain ⟨st, a1, a2, a3, a4, a5⟩ := s
  have B : ∀ r, post r (st, a1, a2, a3, a4, a5) := fun r => H r _ hJ
  have hI : zl_I a1 a2 a3 a5 := hJ
  obtain ⟨b, u, w, h, k, hA, hE⟩ := hI
  unfold wpX_giveUp
  dsimp only
  refine zl_isT (br_t rfl (B _)) (fun t ht e => br_f zl_one ?_)
  subst e
  refine ⟨pk_in t 6 ht, ?_⟩
  have ct : (nI t).toNatClampNeg = t := nI_clamp (by omega)
  rw [ct]
  rcases zl_at k ht with ⟨e1, e2, e3⟩ | ⟨l, s, hl, hs, e1, e2, e3, e4, e5⟩
  · rw [e2]
    exact br_f zl_nneg (B _)
  · rw [e3]
    have cl : (nI l).toNatClampNeg = l := nI_clamp (by omega)
    rw [cl, e4]
    have hA' : zl_A (zl_n (zl_p w t none) h) := zl_Asub hA (fun x y hx e => by
      by_cases c : x = t
      · rw [c, zl_nwn] at e
        exact absurd e (by simp)
      · rw [zl_nw c] at e
        exact e)
    refine br_t (nI_pos' (by omega)) ⟨pk_in t 6 ht, pk_in l 5 hl, nm_e ⟨pk_in t 6 ht, nm_e (zl_ref (X := fun _ => False) (zl_Kn k) hA' hs (fun x hx _ hn => zl_Qc (hE x hx) (fun j hj => ?_)) (fun u' a2' k' e' => H _ _ ⟨b, u', _, h, k', hA', fun x hx => e' x hx (fun z => z)⟩))⟩⟩
    by_cases c : j = t
    · rw [c, zl_nwn, e5]
      exact ⟨fun z => absurd z (by simp), fun z => absurd (Option.some.inj z).symm hn⟩
    · rw [zl_nw c]
theorem zl_take {post : Int32 → St1 → Prop} {s : St1} {p0 p1 : Int32} (H : ∀ r s', zl_J s' → post r s') (hJ : zl_J s) : wpX_take post s p0 p1 := by
  obtain ⟨st, a1, a2, a3, a4, a5⟩ := s
  have B : ∀ r, post r (st, a1, a2, a3, a4, a5) := fun r => H r _ hJ
  have hI : zl_I a1 a2 a3 a5 := hJ
  obtain ⟨b, u, w, h, k, hA, hE⟩ := hI
  unfold wpX_take
  dsimp only
  refine zl_isT (br_t rfl (B _)) (fun t ht e => br_f zl_one (zl_isL (br_t rfl (B _)) (fun l hl e' => br_f zl_one ?_)))
  subst e
  subst e'
  refine ⟨pk_in t 6 ht, ?_⟩
  have ct : (nI t).toNatClampNeg = t := nI_clamp (by omega)
  have cl : (nI l).toNatClampNeg = l := nI_clamp (by omega)
  rw [ct, cl]
  rcases zl_at k ht with ⟨e1, e2, e3⟩ | ⟨l', s', hl', hs', e1, e2, e3, e4, e5⟩
  rotate_left
  · rw [e3]
    exact br_t (nI_pos' (by omega)) (B _)
  rw [e2]
  refine br_f zl_nneg ⟨pk_in l 5 hl, ?_⟩
  rcases zl_hd k hl with ⟨d1, d2⟩ | ⟨s, hs, d1, d2⟩
  · rw [d2]
    refine br_f (zl_m1 (by omega)) ⟨pk_in l 5 hl, nm_e (br_f zl_nneg ⟨pk_in l 5 hl, nm_e (H _ _ ?_)⟩)⟩
    have hn : ∀ x, x < 6 → ¬ w x = some l := by
      intro x hx z
      obtain ⟨_, y, hy⟩ := (k.2.2.1 x hx).2 l z
      rw [d1] at hy
      exact absurd hy (by simp)
    refine ⟨b, u, w, _, zl_Kh k ht, zl_Asub hA (fun x y hx e => ?_), fun x hx => zl_Qc (hE x hx) (fun j hj => ?_)⟩
    · rw [zl_nh (hn x hx)] at e
      exact e
    · rw [zl_nh (hn j hj)]
  · rw [d2]
    refine pk_eq s t (fun _ => B _) (fun hst => ⟨pk_in l 5 hl, nm_e (br_t (nI_pos' (by omega)) (zl_dep k hs ht (fun _ => br_f zl_one (B _)) (fun d => br_t rfl ⟨pk_in t 6 ht, nm_e ⟨pk_in t 6 ht, nm_e (nm_e ?_)⟩⟩)))⟩)
    have hA' : zl_A (zl_n (zl_p w t (some l)) h) := zl_Aadd hA hs (by rw [zl_nws, d1]) (fun x hx => zl_nw hx) hst d
    refine zl_ref (X := fun _ => False) (zl_Kw k hl d1) hA' hs (fun x hx _ hn => zl_Qc (hE x hx) (fun j hj => ?_)) (fun u' a2' k' e' => H _ _ ⟨b, u', _, h, k', hA', fun x hx => e' x hx (fun z => z)⟩)
    by_cases c : j = t
    · rw [c, zl_nws, d1, e3]
      exact ⟨fun z => absurd (Option.some.inj z).symm hn, fun z => absurd z (by simp)⟩
    · rw [zl_nw c]
theorem zl_give {post : Int32 → St1 → Prop} {s : St1} {p0 p1 : Int32} (H : ∀ r s', zl_J s' → post r s') (hJ : zl_J s) : wpX_give post s p0 p1 := by
  obtain ⟨st, a1, a2, a3, a4, a5⟩ := s
  have B : ∀ r, post r (st, a1, a2, a3, a4, a5) := fun r => H r _ hJ
  have hI : zl_I a1 a2 a3 a5 := hJ
  obtain ⟨b, u, w, h, k, hA, hE⟩ := hI
  unfold wpX_give
  dsimp only
  refine zl_isT (br_t rfl (B _)) (fun t ht e => br_f zl_one (zl_isL (br_t rfl (B _)) (fun l hl e' => br_f zl_one ?_)))
  subst e
  subst e'
  refine ⟨pk_in t 6 ht, ?_⟩
  have ct : (nI t).toNatClampNeg = t := nI_clamp (by omega)
  have cl : (nI l).toNatClampNeg = l := nI_clamp (by omega)
  rw [ct, cl]
  rcases zl_at k ht with ⟨e1, e2, e3⟩ | ⟨l', s', hl', hs', e1, e2, e3, e4, e5⟩
  rotate_left
  · rw [e3]
    exact br_t (nI_pos' (by omega)) (B _)
  rw [e2]
  refine br_f zl_nneg ⟨pk_in l 5 hl, ?_⟩
  rcases zl_hd k hl with ⟨d1, d2⟩ | ⟨s, hs, d1, d2⟩
  · rw [d2]
    exact br_f (zl_m1 (by omega)) (B _)
  rw [d2]
  refine pk_eq s t (fun hst => zl_best k hl (fun o hP => ⟨pk_in l 5 hl, nm_e ?_⟩)) (fun _ => B _)
  subst hst
  cases o with
  | none =>
    have hn := hP.1 rfl
    have hA' : zl_A (zl_n w (zl_p h l none)) := zl_Asub hA (fun x y hx e => by
      rw [zl_nh (hn x hx)] at e
      exact e)
    refine br_t zl_neg (zl_ref (X := fun _ => False) (zl_Kf k hn) hA' hs (fun x hx _ _ => zl_Qc (hE x hx) (fun j hj => by rw [zl_nh (hn j hj)])) (fun u' a2' k' e' => H _ _ ⟨b, u', w, _, k', hA', fun x hx => e' x hx (fun z => z)⟩))
  | some r =>
    obtain ⟨hr, hwr, _⟩ := hP.2 r rfl
    have cr : (nI r).toNatClampNeg = r := nI_clamp (by omega)
    rw [zl_es, cr]
    -- the new graph: r waits for nobody; those that waited at l wait for r; the others as before
    have g0 : zl_n (zl_p w r none) (zl_p h l (some r)) r = none := zl_nwn
    have g1 : ∀ x, x ≠ r → w x = some l → zl_n (zl_p w r none) (zl_p h l (some r)) x = some r := fun x hx e => by rw [zl_nw hx, zl_nhs e]
    have g2 : ∀ x, x ≠ r → ¬ w x = some l → zl_n (zl_p w r none) (zl_p h l (some r)) x = zl_n w h x := fun x hx e => by rw [zl_nw hx, zl_nh e]
    have hA' : zl_A (zl_n (zl_p w r none) (zl_p h l (some r))) := zl_Agive hA hr g0 (fun x y hx hxr e => by
      by_cases c : w x = some l
      · rw [g1 x hxr c] at e
        exact Or.inl (Option.some.inj e).symm
      · rw [g2 x hxr c] at e
        exact Or.inr e)
    have gs : ∀ x, w x = some l → zl_n w h x = some s := fun x e => by rw [zl_ns e, d1]
    refine br_f (nI_pos (by omega)) ⟨pk_in r 6 hr, nm_e (zl_ref (X := fun x => x = s) (zl_Kn (zl_Kh k hr)) hA' hr (fun x hx hX hn => zl_Qc (hE x hx) (fun j hj => ?_)) (fun u' a2' k' e' => ?_))⟩
    · by_cases c : j = r
      · rw [c, g0, gs r hwr]
        exact ⟨fun z => absurd z (by simp), fun z => absurd (Option.some.inj z).symm hX⟩
      · by_cases c2 : w j = some l
        · rw [g1 j c c2, gs j c2]
          exact ⟨fun z => absurd (Option.some.inj z).symm hn, fun z => absurd (Option.some.inj z).symm hX⟩
        · rw [g2 j c c2]
    · exact zl_ref (X := fun _ => False) k' hA' hs (fun x hx _ hn => e' x hx hn) (fun u'' a2'' k'' e'' => H _ _ ⟨b, u'', _, _, k'', hA', fun x hx => e'' x hx (fun z => z)⟩)
theorem zl_turn {post : St1 → Prop} {s : St1} {p1 p2 p3 : Int32} (H : ∀ s', zl_J s' → post s') (hJ : zl_J s) : wpL_turn post s p1 p2 p3 := by
  obtain ⟨st, a1, a2, a3, a4, a5⟩ := s
  have b147 : ∀ z0 z1, wL_turn_147 post z0 z1 st a1 a2 a3 a4 a5 := fun z0 z1 => zl_base (fun r s' hs' => H s' hs') hJ
  have bh : ∀ (post' : Int32 → Prop) (z0 : Int32), (∀ r, post' r) → wpX_holder post' (st, a1, a2, a3, a4, a5) z0 := fun post' z0 hp => by
    unfold wpX_holder
    dsimp only
    exact zl_isL (br_t rfl (hp _)) (fun l hl e => br_f zl_one ⟨pk_in l 5 hl e, hp _⟩)
  have b45 : ∀ x1 x3 x4 x5 z0, wL_turn_45 post x1 x3 x4 x5 z0 st a1 a2 a3 a4 a5 := fun x1 x3 x4 x5 z0 =>
    br_c (fun _ => br_c (fun _ => br_c (fun _ => br_c (fun _ => zl_giveUp (fun r s' hs' => H s' hs') hJ) (fun _ => br_c (fun _ => b147 _ _) (fun _ => b147 _ _))) (fun _ => bh _ _ (fun r => zl_give (fun r s' hs' => H s' hs') hJ))) (fun _ => zl_give (fun r s' hs' => H s' hs') hJ)) (fun _ => zl_take (fun r s' hs' => H s' hs') hJ)
  have b25 : ∀ x1 x3 x4 z0, wL_turn_25 post x1 x3 x4 z0 st a1 a2 a3 a4 a5 := fun x1 x3 x4 z0 =>
    br_c (fun _ => ⟨by decide, b45 _ _ _ _ _⟩) (fun _ => b45 _ _ _ _ _)
  exact nm_e (br_c (fun _ => ⟨by decide, b25 _ _ _ _⟩) (fun _ => b25 _ _ _ _))
end
section
/-! ===== the law's checks ===== -/
/-- the law's 'most' of a lock -/
def zl_M (u : Nat → Nat) (w : Nat → Option Nat) (l k : Nat) (o : Option Nat) : Prop := (o = none → ∀ s, s < k → ¬ w s = some l) ∧ (∀ v, o = some v → v ≤ 9 ∧ (∃ s, s < k ∧ w s = some l ∧ u s = v) ∧ ∀ s, s < k → w s = some l → u s ≤ v)
theorem zl_M0 {u : Nat → Nat} {w : Nat → Option Nat} {l : Nat} : zl_M u w l 0 none := ⟨fun _ s hs => absurd hs (by omega), fun r z => absurd z (by simp)⟩
theorem zl_Mskip {u : Nat → Nat} {w : Nat → Option Nat} {l k : Nat} {o : Option Nat} (h : zl_M u w l k o) (c : ¬ w k = some l) : zl_M u w l (k + 1) o := by
  refine ⟨fun z s hs => ?_, fun v z => ?_⟩
  · by_cases e : s = k
    · rw [e]; exact c
    · exact h.1 z s (by omega)
  · obtain ⟨h1, ⟨s, h2, h4, h5⟩, h3⟩ := h.2 v z
    refine ⟨h1, ⟨s, by omega, h4, h5⟩, fun s hs q => ?_⟩
    by_cases e : s = k
    · rw [e] at q; exact absurd q c
    · exact h3 s (by omega) q
theorem zl_Mold {u : Nat → Nat} {w : Nat → Option Nat} {l k v : Nat} (h : zl_M u w l k (some v)) (c : u k ≤ v) : zl_M u w l (k + 1) (some v) := by
  refine ⟨fun z => absurd z (by simp), fun v' z => ?_⟩
  have e := Option.some.inj z
  subst e
  obtain ⟨h1, ⟨s, h2, h4, h5⟩, h3⟩ := h.2 v rfl
  refine ⟨h1, ⟨s, by omega, h4, h5⟩, fun s hs q => ?_⟩
  by_cases e : s = k
  · rw [e]; exact c
  · exact h3 s (by omega) q
theorem zl_Mnew {u : Nat → Nat} {w : Nat → Option Nat} {l k : Nat} {o : Option Nat} (h : zl_M u w l k o) (e : w k = some l) (h9 : u k ≤ 9) (c : ∀ v, o = some v → v ≤ u k) : zl_M u w l (k + 1) (some (u k)) := by
  refine ⟨fun z => absurd z (by simp), fun v' z => ?_⟩
  have ez := Option.some.inj z
  subst ez
  refine ⟨h9, ⟨k, by omega, e, rfl⟩, fun s hs q => ?_⟩
  by_cases es : s = k
  · rw [es]; exact Nat.le_refl _
  · cases o with
    | none => exact absurd q (h.1 rfl s (by omega))
    | some v =>
      have h3 := (h.2 v rfl).2.2 s (by omega) q
      have := c v rfl
      omega
/-- the law's 'most' beside its best -/
def zl_U (u : Nat → Nat) : Option Nat → Int32
  | none => -1
  | some r => nI (u r)
theorem zl_Us (u : Nat → Nat) (r : Nat) : zl_U u (some r) = nI (u r) := rfl
theorem zl_nm {n : Nat} (h : n < 2 ^ 31) : ¬ nI n ≤ (-1) := by
  intro z
  have h1 : (nI n).toInt ≤ (-1 : Int32).toInt := Int32.le_iff_toInt_le.mp z
  rw [nI_toInt h] at h1
  have h2 : (-1 : Int32).toInt = -1 := by decide
  rw [h2] at h1
  omega
theorem zl_nlm {n : Nat} (h : n < 2 ^ 31) : ¬ nI n < (-1) := by
  intro z
  have h1 : (nI n).toInt < (-1 : Int32).toInt := Int32.lt_iff_toInt_lt.mp z
  rw [nI_toInt h] at h1
  have h2 : (-1 : Int32).toInt = -1 := by decide
  rw [h2] at h1
  omega
section
variable {st : Int32} {b u : Nat → Nat} {w h : Nat → Option Nat} {a1 a2 a3 a4 a5 : Nat → Int32}
/-! running -/
theorem zl_lrun {post : Int32 → Prop} (k : zl_K b u w h a1 a2 a3 a5) (hp : post (zl_e (zl_R u w 6))) : wpL_running post (st, a1, a2, a3, a4, a5) := by
  refine pk_loop (σ := Unit) (fun n i _ => wL_running_6 post st a1 a2 a3 a4 a5 n (zl_e (zl_R u w i)) (zl_U u (zl_R u w i)) (nI i)) (fun _ _ => True) 6 0 () (by omega) trivial ?_ ?_
  · intro n _ _
    exact pk_le 6 6 (fun _ => hp) (fun z => absurd z (by omega))
  · intro n i _ hi _ hw
    have T : wL_running_6 post st a1 a2 a3 a4 a5 n (zl_e (zl_R u w (i + 1))) (zl_U u (zl_R u w (i + 1))) (nI (i + 1)) := hw () trivial
    show wL_running_6 post st a1 a2 a3 a4 a5 (n + 1) (zl_e (zl_R u w i)) (zl_U u (zl_R u w i)) (nI i)
    obtain ⟨u9, ua⟩ := k.2.1 i hi
    refine pk_le 6 i (fun z => absurd z (by omega)) (fun _ => zl_urg k hi (zl_wts k hi ?_))
    rcases zl_at k hi with ⟨e1, e2, e3⟩ | ⟨l', s, hl', hs, e1, e2, e3, e4, e5⟩
    · rw [e1]
      refine br_f zl_nneg ?_
      cases q : zl_R u w i with
      | none =>
        rw [zl_R0 e1 q] at T
        exact br_f (zl_nm (by omega)) (br_f zl_one (br_f zl_one (nm_r (nI_1 i) T)))
      | some r =>
        have hr := zl_Rlt i r q
        obtain ⟨v9, va⟩ := k.2.1 r (by omega)
        refine pk_le (u i) (u r) (fun z => ?_) (fun z => ?_)
        · rw [zl_R2 e1 q (by omega)] at T
          exact br_t rfl (br_t rfl (nm_r (nI_1 i) T))
        · rw [zl_R1 e1 q z] at T
          exact br_f zl_one (br_f zl_one (nm_r (nI_1 i) T))
    · rw [e1]
      rw [zl_Rs e1] at T
      exact br_t (nI_pos' (by omega)) (br_t rfl (br_t rfl (nm_r (nI_1 i) T)))
/-! locks -/
theorem zl_lk14 {post : Int32 → Prop} {J : Int32 → Prop} {l : Nat} (k : zl_K b u w h a1 a2 a3 a5) (hl : l < 5) (hJ : J (nI (l + 1))) : ∃ n, wL_locks_14 post J (nI l) st a1 a2 a3 a4 a5 n 0 (-1) 0 := by
  refine pk_loop (fun n i o => wL_locks_14 post J (nI l) st a1 a2 a3 a4 a5 n (nI (zl_C w l i)) (zl_e o) (nI i)) (fun i o => zl_M u w l i o) 6 0 none (by omega) zl_M0 ?_ ?_
  · intro n o hM
    have c6 := zl_Cle w l 6
    refine pk_le 6 6 (fun _ => ?_) (fun z => absurd z (by omega))
    refine zl_next k hl (fun q hP => zl_wait k hl (br_t rfl (pk_eq (zl_C w l 6) 0 (fun z => ?_) (fun z => ?_))))
    · cases q with
      | none =>
        rw [z]
        exact br_t rfl (br_t (nI_le (a := 0) (b := 0) (by omega) (by omega)) (nm_r (nI_1 l) hJ))
      | some r =>
        obtain ⟨hr, hwr, _⟩ := hP.2 r rfl
        have := zl_Cpos hwr 6 hr
        omega
    · cases q with
      | none =>
        have := zl_Czero 6 (hP.1 rfl)
        exact absurd this z
      | some r =>
        obtain ⟨hr, hwr, hmax⟩ := hP.2 r rfl
        cases o with
        | none => exact absurd hwr (hM.1 rfl r hr)
        | some v =>
          obtain ⟨v9, ⟨s, hs, hws, hus⟩, hall⟩ := hM.2 v rfl
          have m1 := hmax s hs hws
          have m2 := hall r hr hwr
          have ev : u r = v := by omega
          refine br_f (nI_pos (by omega)) (zl_wts k hr ?_)
          rw [hwr]
          refine br_t rfl (zl_urg k hr ?_)
          rw [ev]
          refine br_t rfl (br_f (nI_nle (by omega) (by omega)) (zl_hol k hl ?_))
          obtain ⟨_, y, hy⟩ := (k.2.2.1 r hr).2 l hwr
          have hy6 := (k.2.2.2 l hl).2 y hy
          rw [hy]
          exact br_t (nI_pos' (by omega)) (nm_r (nI_1 l) hJ)
  · intro n i o hi hM hw
    have hw' : ∀ o', zl_M u w l (i + 1) o' → wL_locks_14 post J (nI l) st a1 a2 a3 a4 a5 n (nI (zl_C w l (i + 1))) (zl_e o') (nI (i + 1)) := hw
    show wL_locks_14 post J (nI l) st a1 a2 a3 a4 a5 (n + 1) (nI (zl_C w l i)) (zl_e o) (nI i)
    obtain ⟨u9, ua⟩ := k.2.1 i hi
    refine pk_le 6 i (fun z => absurd z (by omega)) (fun _ => zl_wts k hi ?_)
    rcases zl_at k hi with ⟨e1, e2, e3⟩ | ⟨l', s, hl', hs, e1, e2, e3, e4, e5⟩
    · have T := hw' o (zl_Mskip hM (by rw [e1]; simp))
      rw [zl_Cf (by rw [e1]; simp)] at T
      rw [e1]
      exact br_f (zl_m1 (by omega)) (br_t rfl (br_t rfl (nm_r (nI_1 i) T)))
    · rw [e1]
      refine pk_eq l' l (fun z => ?_) (fun z => ?_)
      · subst z
        rw [zl_Ct e1] at hw'
        refine br_f zl_one (br_f zl_one (zl_urg k hi ?_))
        cases o with
        | none =>
          refine br_f (zl_nm (by omega)) (zl_urg k hi (nm_r (nI_1 i) ?_))
          exact ek_v (P := fun x => wL_locks_14 post J (nI l') st a1 a2 a3 a4 a5 n x (nI (u i)) (nI (i + 1))) (nI_1 _) (hw' (some (u i)) (zl_Mnew hM e1 u9 (fun v q => absurd q (by simp))))
        | some v =>
          have v9 := (hM.2 v rfl).1
          refine pk_le (u i) v (fun z => nm_r (nI_1 i) ?_) (fun z => zl_urg k hi (nm_r (nI_1 i) ?_))
          · exact ek_v (P := fun x => wL_locks_14 post J (nI l') st a1 a2 a3 a4 a5 n x (nI v) (nI (i + 1))) (nI_1 _) (hw' (some v) (zl_Mold hM z))
          · exact ek_v (P := fun x => wL_locks_14 post J (nI l') st a1 a2 a3 a4 a5 n x (nI (u i)) (nI (i + 1))) (nI_1 _) (hw' (some (u i)) (zl_Mnew hM e1 u9 (fun v' q => by have := Option.some.inj q; omega)))
      · have hne : ¬ w i = some l := by rw [e1]; simp [z]
        have T := hw' o (zl_Mskip hM hne)
        rw [zl_Cf hne] at T
        exact br_t rfl (br_t rfl (nm_r (nI_1 i) T))
theorem zl_lk {post : Int32 → Prop} (k : zl_K b u w h a1 a2 a3 a5) (hp : post 1) : wpL_locks post (st, a1, a2, a3, a4, a5) := by
  refine pk_loop (σ := Unit) (fun n i _ => wL_locks_2 post st a1 a2 a3 a4 a5 n (nI i)) (fun _ _ => True) 5 0 () (by omega) trivial ?_ ?_
  · intro n _ _
    exact pk_le 5 5 (fun _ => hp) (fun z => absurd z (by omega))
  · intro n i _ hi _ hw
    exact pk_le 5 i (fun z => absurd z (by omega)) (fun _ => zl_lk14 k hi (hw () trivial))
/-! thread -/
theorem zl_th224 {post : Int32 → Prop} {t : Nat} (k : zl_K b u w h a1 a2 a3 a5) (ht : t < 6) (hp : post 1) : wL_thread_224 post (nI t) (nI (u t)) st a1 a2 a3 a4 a5 := by
  obtain ⟨u9, ua⟩ := k.2.1 t ht
  obtain ⟨b9, ba⟩ := k.1 t ht
  refine zl_lift k ?_
  by_cases c : b t < u t
  · have hb : bt (zl_F b u 6) t = true := (zl_Fb (by omega) 6 (by omega)).mpr ⟨ht, c⟩
    exact br_t (zl_bit1 (by omega) hb) (zl_bas k ht (pk_le (u t) (b t) (fun z => absurd z (by omega)) (fun _ => br_t rfl hp)))
  · have hb : bt (zl_F b u 6) t = false := by
      cases e : bt (zl_F b u 6) t with
      | false => rfl
      | true => exact absurd ((zl_Fb (by omega) 6 (by omega)).mp e).2 c
    exact br_f (by rw [zl_bit0 (by omega) hb]; decide) (zl_bas k ht (pk_le (u t) (b t) (fun _ => br_t rfl hp) (fun z => absurd z (by omega))))
theorem zl_th109 {post : Int32 → Prop} {t : Nat} (k : zl_K b u w h a1 a2 a3 a5) (hA : zl_A (zl_n w h)) (ht : t < 6) (hp : post 1) : ∃ n, wL_thread_109 post (nI t) (nI (u t)) (zl_B (zl_n w h) t 6) st a1 a2 a3 a4 a5 n 0 0 := by
  refine pk_loop (σ := Unit) (fun n i _ => wL_thread_109 post (nI t) (nI (u t)) (zl_B (zl_n w h) t 6) st a1 a2 a3 a4 a5 n (zl_H h t i) (nI i)) (fun _ _ => True) 5 0 () (by omega) trivial ?_ ?_
  · intro n _ _
    have P224 := zl_th224 (st := st) (a4 := a4) k ht hp
    refine pk_le 5 5 (fun _ => zl_wts k ht (zl_urg k ht (br_t rfl (zl_won k ht (br_t (zl_WB hA t) (zl_held k ht (br_t rfl (br_t (zl_bit0 (by omega) (zl_Bi hA ht)) ?_)))))))) (fun z => absurd z (by omega))
    rcases zl_at k ht with ⟨e1, e2, e3⟩ | ⟨l, s, hl, hs, e1, e2, e3, e4, e5⟩
    · rw [e1]
      exact br_f (show ¬ (-1 : Int32) < (-1) by decide) (br_f (show ¬ (4 : Int32) < (-1) by decide) (br_t zl_neg P224))
    · have hst := zl_Ai hA ht e5
      rw [e1]
      refine br_f (zl_nlm (by omega)) (br_f (nI_nlt (b := l) (a := 4) (by omega) (by omega)) (br_f (nI_pos (by omega)) (zl_hol k hl ?_)))
      rw [e2]
      refine br_f (nI_pos (by omega)) (zl_hol k hl ?_)
      rw [e2]
      exact pk_eq s t (fun z => absurd z hst) (fun _ => P224)
  · intro n i _ hi _ hw
    have T : wL_thread_109 post (nI t) (nI (u t)) (zl_B (zl_n w h) t 6) st a1 a2 a3 a4 a5 n (zl_H h t (i + 1)) (nI (i + 1)) := hw () trivial
    show wL_thread_109 post (nI t) (nI (u t)) (zl_B (zl_n w h) t 6) st a1 a2 a3 a4 a5 (n + 1) (zl_H h t i) (nI i)
    refine pk_le 5 i (fun z => absurd z (by omega)) (fun _ => zl_hol k hi ?_)
    rcases zl_hd k hi with ⟨e1, e2⟩ | ⟨s, hs, e1, e2⟩
    · rw [e1]
      rw [zl_Hf (by rw [e1]; simp)] at T
      exact br_f (zl_m1 (by omega)) (nm_r (nI_1 i) T)
    · rw [e1]
      refine pk_eq s t (fun z => ?_) (fun z => ?_)
      · rw [zl_Ht (by rw [e1, z])] at T
        exact nm_e (nm_r (nI_1 i) T)
      · rw [zl_Hf (by rw [e1]; simp [z])] at T
        exact nm_r (nI_1 i) T
theorem zl_th {post : Int32 → Prop} {t : Nat} (k : zl_K b u w h a1 a2 a3 a5) (hA : zl_A (zl_n w h)) (ht : t < 6) (hQ : zl_Q (zl_n w h) b u t) (hp : post 1) : wpL_thread post (st, a1, a2, a3, a4, a5) (nI t) := by
  have b9 := (k.1 t ht).1
  unfold wpL_thread
  dsimp only
  refine zl_bas k ht ?_
  refine pk_loop (σ := Unit) (fun n i _ => wL_thread_14 post (nI t) 0 st a1 a2 a3 a4 a5 n (nI (zl_L (zl_n w h) u t (b t) i)) (zl_B (zl_n w h) t i) (nI i)) (fun _ _ => True) 6 0 () (by omega) trivial ?_ ?_
  · intro n _ _
    refine pk_le 6 6 (fun _ => ?_) (fun z => absurd z (by omega))
    have E : zl_L (zl_n w h) u t (b t) 6 = u t := hQ.symm
    rw [E]
    exact zl_th109 k hA ht hp
  · intro n i _ hi _ hw
    have T : wL_thread_14 post (nI t) 0 st a1 a2 a3 a4 a5 n (nI (zl_L (zl_n w h) u t (b t) (i + 1))) (zl_B (zl_n w h) t (i + 1)) (nI (i + 1)) := hw () trivial
    show wL_thread_14 post (nI t) 0 st a1 a2 a3 a4 a5 (n + 1) (nI (zl_L (zl_n w h) u t (b t) i)) (zl_B (zl_n w h) t i) (nI i)
    have l9 := zl_L9 (nx := zl_n w h) (t := t) b9 (fun j hj => (k.2.1 j hj).1) i (by omega)
    obtain ⟨u9, ua⟩ := k.2.1 i hi
    refine pk_le 6 i (fun z => absurd z (by omega)) (fun _ => zl_wts k hi ?_)
    rcases zl_at k hi with ⟨e1, e2, e3⟩ | ⟨l, s, hl, hs, e1, e2, e3, e4, e5⟩
    · have hne : ¬ zl_n w h i = some t := by rw [e3]; simp
      rw [zl_Ln hne, zl_Bf hne] at T
      rw [e1]
      refine br_t zl_neg ?_
      unfold wL_thread_48 wL_thread_49
      exact zl_urg k hi (br_t rfl (br_t rfl (nm_r (nI_1 i) T)))
    · rw [e1]
      refine br_f (nI_pos (by omega)) (zl_hol k hl ?_)
      rw [e2]
      refine pk_eq s t (fun z => zl_urg k hi (br_f zl_one (pk_le (u i) (zl_L (zl_n w h) u t (b t) i) (fun z2 => ?_) (fun z2 => ?_)))) (fun z => ?_)
      · have he : zl_n w h i = some t := by rw [e5, z]
        rw [zl_Lq (by omega), zl_Bt he] at T
        exact br_f zl_one (zl_won k hi (nm_e (nm_r (nI_1 i) T)))
      · have he : zl_n w h i = some t := by rw [e5, z]
        rw [zl_Lp he z2, zl_Bt he] at T
        exact br_f zl_one (zl_won k hi (nm_e (nm_r (nI_1 i) T)))
      · have hne : ¬ zl_n w h i = some t := by rw [e5]; simp [z]
        rw [zl_Ln hne, zl_Bf hne] at T
        unfold wL_thread_48 wL_thread_49
        exact zl_urg k hi (br_t rfl (br_t rfl (nm_r (nI_1 i) T)))
/-! calls outside the range -/
theorem zl_oT {post : Int32 → Prop} {p : Int32} (hp : 6 ≤ p) (h0 : post 0) : wpX_isThread post () p :=
  br_c (fun _ => h0) (fun _ => br_t hp h0)
theorem zl_oL {post : Int32 → Prop} {p : Int32} (hp : 5 ≤ p) (h0 : post 0) : wpX_isLock post () p :=
  br_c (fun _ => h0) (fun _ => br_t hp h0)
theorem zl_ou {post : Int32 → Prop} (hp : post (-1)) : wpX_urgency post (st, a1, a2, a3, a4, a5) 6 := by
  unfold wpX_urgency
  dsimp only
  exact zl_oT (by decide) (br_t rfl hp)
theorem zl_ob {post : Int32 → Prop} (hp : post (-1)) : wpX_base post (st, a1, a2, a3, a4, a5) (-1) := by
  unfold wpX_base
  dsimp only
  exact br_t zl_neg (br_t rfl hp)
theorem zl_oh {post : Int32 → Prop} (hp : post (-1)) : wpX_holder post (st, a1, a2, a3, a4, a5) 5 := by
  unfold wpX_holder
  dsimp only
  exact zl_oL (by decide) (br_t rfl hp)
theorem zl_ow {post : Int32 → Prop} (hp : post (-1)) : wpX_waitsFor post (st, a1, a2, a3, a4, a5) 6 := by
  unfold wpX_waitsFor
  dsimp only
  exact zl_oT (by decide) (br_t rfl hp)
theorem zl_owt {post : Int32 → Prop} (hp : post 0) : wpX_waiting post (st, a1, a2, a3, a4, a5) 5 := ⟨1, br_f (by decide) (zl_oL (by decide) (br_t rfl hp))⟩
theorem zl_on {post : Int32 → Prop} (hp : post (-1)) : wpX_nextFor post (st, a1, a2, a3, a4, a5) (-1) := by
  unfold wpX_nextFor
  dsimp only
  exact br_t zl_neg (br_t rfl hp)
theorem zl_ohd {post : Int32 → Prop} (hp : post 0) : wpX_held post (st, a1, a2, a3, a4, a5) 6 := ⟨1, br_f (by decide) (zl_oT (by decide) (br_t rfl hp))⟩
theorem zl_owo {post : Int32 → Prop} (hp : post 0) : wpX_waitingOn post (st, a1, a2, a3, a4, a5) 6 := ⟨1, br_f (by decide) (zl_oT (by decide) (br_t rfl hp))⟩
end
end
section
/-! ===== the law ===== -/
theorem zl_l37 {post : Int32 → Prop} {L : Nat} {xs : Nat → Int32} {J : Int32 → Int32 → (Nat → Int32) → (Nat → Int32) → (Nat → Int32) → (Nat → Int32) → (Nat → Int32) → Prop} {q : Nat} {kc ks : Nat} {st : Int32} {a1 a2 a3 a4 a5 : Nat → Int32}
    (hJ : zl_J (st, a1, a2, a3, a4, a5)) (hN : J (nI (q + 3)) st a1 a2 a3 a4 a5) : ∃ n, wL_law_37 post L xs J (nI q) kc ks st a1 a2 a3 a4 a5 n 0 := by
  have hI : zl_I a1 a2 a3 a5 := hJ
  obtain ⟨b, u, w, h, k, hA, hE⟩ := hI
  refine pk_loop (σ := Unit) (fun n i _ => wL_law_37 post L xs J (nI q) kc ks st a1 a2 a3 a4 a5 n (nI i)) (fun _ _ => True) 6 0 () (by omega) trivial ?_ ?_
  · intro n _ _
    refine pk_le 6 6 (fun _ => zl_lrun k (zl_lk k (br_f zl_one (zl_run k (br_t rfl ?_))))) (fun z => absurd z (by omega))
    cases e : zl_R u w 6 with
    | none =>
      obtain ⟨t, ht, hw⟩ := zl_free k hA
      exact absurd hw (zl_Rnone 6 e t ht)
    | some r =>
      have hr := zl_Rlt 6 r e
      exact br_t (nI_pos' (by omega)) (zl_ou (br_t rfl (zl_ob (br_t rfl (zl_oh (br_t rfl (zl_ow (br_t rfl (zl_owt (br_t rfl (zl_on (br_t rfl (zl_ohd (br_t rfl (zl_owo (br_t rfl (nm_r (nI_add q 3) hN)))))))))))))))))
  · intro n i _ hi _ hw
    exact pk_le 6 i (fun z => absurd z (by omega)) (fun _ => zl_th k hA hi (hE i hi) (br_f zl_one (nm_r (nI_1 i) (hw () trivial))))
theorem zl_l10 {post : Int32 → Prop} {L : Nat} {xs : Nat → Int32} {kc ks : Nat} (hL : L ≤ 260) (hp : post 1) : ∀ n q st a1 a2 a3 a4 a5, L < q + n → q ≤ 300 → zl_J (st, a1, a2, a3, a4, a5) → wL_law_10 post L xs kc ks (n + 1) (nI q) st a1 a2 a3 a4 a5 := by
  intro n
  induction n with
  | zero =>
    intro q st a1 a2 a3 a4 a5 hq hq3 hJ
    refine pk_le L (q + 2) (fun _ => hp) (fun z => absurd z (by omega)) rfl (nI_add q 2)
  | succ n ih =>
    intro q st a1 a2 a3 a4 a5 hq hq3 hJ
    refine pk_le L (q + 2) (fun _ => hp) (fun z => ⟨pk_in q L (by omega), pk_in (q + 1) L (by omega) (nI_add q 1), pk_in (q + 2) L (by omega) (nI_add q 2), ?_⟩) rfl (nI_add q 2)
    refine zl_turn (fun s' hs' => ?_) hJ
    obtain ⟨f1, f2, f3, f4, f5, f6⟩ := s'
    exact zl_l37 hs' (ih (q + 3) f1 f2 f3 f4 f5 f6 (by omega) (by omega) hs')
theorem zl_init {post : St1 → Prop} {st : Int32} (H : ∀ a3 a5, (∀ t, t < 6 → a3 t = -1) → (∀ l, l < 5 → a5 l = -1) → post (st, (fun _ => 0), (fun _ => 0), a3, (fun _ => 0), a5)) : wpX_init post 5 29 st := by
  refine ⟨by omega, by omega, by omega, by omega, by omega, by omega, by omega, by omega, by omega, by omega, ?_⟩
  refine pk_loop (fun n i s => wX_init_45 post 5 29 5 29 st n (nI i) (fun _ => 0) (fun _ => 0) s (fun _ => 0) (fun _ => 0)) (fun i s => ∀ j, j < i → s j = -1) 6 0 (fun _ => 0) (by omega) (fun j hj => absurd hj (by omega)) ?_ ?_
  · intro n a3 h3
    refine pk_le 6 6 (fun _ => ?_) (fun z => absurd z (by omega))
    refine pk_loop (fun n i s => wX_init_66 post 5 29 5 29 st n (nI i) (fun _ => 0) (fun _ => 0) a3 (fun _ => 0) s) (fun i s => ∀ j, j < i → s j = -1) 5 0 (fun _ => 0) (by omega) (fun j hj => absurd hj (by omega)) ?_ ?_
    · intro n a5 h5
      exact pk_le 5 5 (fun _ => H a3 a5 h3 h5) (fun z => absurd z (by omega))
    · intro n i s hi hs hw
      refine pk_le 5 i (fun z => absurd z (by omega)) (fun _ => ⟨pk_in i 5 hi, nm_e (nm_r (nI_1 i) (hw _ (fun j hj => ?_)))⟩)
      rw [nI_clamp (show i < 2 ^ 31 by omega)]
      by_cases c : j = i
      · rw [c, pk_us]
      · rw [pk_un c]
        exact hs j (by omega)
  · intro n i s hi hs hw
    refine pk_le 6 i (fun z => absurd z (by omega)) (fun _ => ⟨pk_in i 6 hi, nm_e (nm_r (nI_1 i) (hw _ (fun j hj => ?_)))⟩)
    rw [nI_clamp (show i < 2 ^ 31 by omega)]
    by_cases c : j = i
    · rw [c, pk_us]
    · rw [pk_un c]
      exact hs j (by omega)
theorem zl_J0 {st : Int32} {a3 a4 a5 : Nat → Int32} (h3 : ∀ t, t < 6 → a3 t = -1) (h5 : ∀ l, l < 5 → a5 l = -1) : zl_J (st, (fun _ => 0), (fun _ => 0), a3, a4, a5) := by
  have hn : ∀ x, zl_n (fun _ => none) (fun _ => none) x = none := fun x => zl_nn rfl
  refine ⟨fun _ => 0, fun _ => 0, fun _ => none, fun _ => none, ⟨fun t _ => ⟨Nat.zero_le _, rfl⟩, fun t _ => ⟨Nat.zero_le _, rfl⟩, fun t ht => ⟨h3 t ht, fun l z => absurd z (by simp)⟩, fun l hl => ⟨h5 l hl, fun s z => absurd z (by simp)⟩⟩, ⟨fun _ => 0, fun _ _ => Nat.zero_lt_succ 5, fun x y _ e => ?_⟩, fun t _ => ?_⟩
  · rw [hn x] at e
    exact absurd e (by simp)
  · unfold zl_Q
    have z : ∀ k, zl_L (zl_n (fun _ => none) (fun _ => none)) (fun _ => 0) t 0 k = 0 := by
      intro k
      induction k with
      | zero => rfl
      | succ k ih => rw [zl_Ln (by rw [hn k]; simp), ih]
    exact (z 6).symm
theorem i_vc (xs : Nat → Int32) (L : Nat) (hL : L ≤ 260) : wpL_law (fun r => r = 1) L xs := by
  refine ⟨5, 29, by omega, by omega, zl_init (fun a3 a5 h3 h5 => ?_)⟩
  exact ⟨L + 2, zl_l10 (post := fun r => r = 1) hL rfl (L + 1) 0 _ _ _ _ _ _ (by omega) (by omega) (zl_J0 h3 h5)⟩
end
