section
/-- the press of the class, step by step -/
def ml_m1 (x k : Int32) : Int32 := ((x ^^^ ((x.toUInt32 >>> ((15 : Int32).toUInt32 &&& Int32.toUInt32 31)).toInt32)) * 739982445) + k
def ml_m2 (x k : Int32) : Int32 := ((x ^^^ ((x.toUInt32 >>> ((12 : Int32).toUInt32 &&& Int32.toUInt32 31)).toInt32)) * 695872825) + k
def ml_m3 (x : Int32) : Int32 := x ^^^ ((x.toUInt32 >>> ((15 : Int32).toUInt32 &&& Int32.toUInt32 31)).toInt32)
def ml_mix (x k : Int32) : Int32 := ml_m3 (ml_m2 (ml_m1 x k) k)
def ml_leaf (x : Int32) : Int32 := ml_mix x 1
def ml_node (a b : Int32) : Int32 := ml_mix (ml_mix a 2 ^^^ b) 3
/-- where a level begins in the parts' row -/
def ml_fst : Nat → Nat
  | 0 => 0
  | 1 => 40
  | 2 => 60
  | 3 => 70
  | 4 => 75
  | _ => 77
/-- the root of the full part of 2^l entries that begins at i * 2^l -/
def ml_F (v : Nat → Int32) : Nat → Nat → Int32
  | 0, i => ml_leaf (v i)
  | l + 1, i => ml_node (ml_F v l (2 * i)) (ml_F v l (2 * i + 1))
/-- the root of the len entries from lo on, 1 ≤ len ≤ 2^h -/
def ml_M (v : Nat → Int32) : Nat → Nat → Nat → Int32
  | 0, lo, _ => ml_leaf (v lo)
  | h + 1, lo, len => if len ≤ 2 ^ h then ml_M v h lo len else ml_node (ml_M v h lo (2 ^ h)) (ml_M v h (lo + 2 ^ h) (len - 2 ^ h))
/-- the way to the entry e, from the top down -/
def ml_P (v : Nat → Int32) (e : Nat) : Nat → Nat → Nat → List Int32
  | 0, _, _ => []
  | h + 1, lo, len => if len ≤ 2 ^ h then ml_P v e h lo len else if lo + 2 ^ h ≤ e then ml_M v 6 lo (2 ^ h) :: ml_P v e h (lo + 2 ^ h) (len - 2 ^ h) else ml_M v 6 (lo + 2 ^ h) (len - 2 ^ h) :: ml_P v e h lo (2 ^ h)
/-- the level that the way has climbed behind a part of len entries -/
def ml_cl : Nat → Nat → Nat
  | 0, _ => 0
  | h + 1, len => if len ≤ 2 ^ h then ml_cl h len else h + 1
/-- the parts' row holds the roots of all full parts among the first n entries -/
def ml_K (v : Nat → Int32) (n : Nat) (a : Nat → Int32) : Prop := ∀ l i, l ≤ 5 → (i + 1) * 2 ^ l ≤ n → a (ml_fst l + i) = ml_F v l i
/-- the row holds the list from place s on -/
def ml_D (a : Nat → Int32) : Nat → List Int32 → Prop
  | _, [] => True
  | s, x :: q => a s = x ∧ ml_D a (s + 1) q
/-- the row holds the list turned round -/
def ml_H (a : Nat → Int32) : List Int32 → Prop
  | [] => True
  | x :: q => a q.length = x ∧ ml_H a q
theorem ml_M_lo {v : Nat → Int32} {h lo len : Nat} (hl : len ≤ 2 ^ h) : ml_M v (h + 1) lo len = ml_M v h lo len := if_pos hl
theorem ml_M_hi {v : Nat → Int32} {h lo len : Nat} (hl : ¬ len ≤ 2 ^ h) : ml_M v (h + 1) lo len = ml_node (ml_M v h lo (2 ^ h)) (ml_M v h (lo + 2 ^ h) (len - 2 ^ h)) := if_neg hl
theorem ml_Mfull (v : Nat → Int32) (h : Nat) : ∀ i, ml_M v h (i * 2 ^ h) (2 ^ h) = ml_F v h i := by
  induction h with
  | zero => intro i; show ml_leaf (v (i * 1)) = ml_leaf (v i); rw [Nat.mul_one]
  | succ h ih =>
    intro i
    have hp : 0 < 2 ^ h := Nat.two_pow_pos h
    rw [ml_M_hi (by omega), show 2 ^ (h + 1) - 2 ^ h = 2 ^ h by omega, show i * 2 ^ (h + 1) + 2 ^ h = (2 * i + 1) * 2 ^ h by rw [Nat.pow_succ, Nat.add_mul, Nat.one_mul, Nat.mul_comm (2 ^ h) 2, ← Nat.mul_assoc, Nat.mul_comm i 2], show i * 2 ^ (h + 1) = (2 * i) * 2 ^ h by rw [Nat.pow_succ, Nat.mul_comm (2 ^ h) 2, ← Nat.mul_assoc, Nat.mul_comm i 2], ih, ih]
    rfl
theorem ml_Mmono {v : Nat → Int32} {h lo len : Nat} (hl : len ≤ 2 ^ h) : ∀ k, ml_M v (h + k) lo len = ml_M v h lo len := by
  intro k
  induction k with
  | zero => rfl
  | succ k ih =>
    rw [← ih]
    exact ml_M_lo (Nat.le_trans hl (Nat.pow_le_pow_right (by decide) (Nat.le_add_right h k)))
theorem ml_M6 {v : Nat → Int32} {h lo len : Nat} (h6 : h ≤ 6) (hl : len ≤ 2 ^ h) : ml_M v 6 lo len = ml_M v h lo len := by
  have := ml_Mmono (v := v) (lo := lo) hl (6 - h)
  rwa [show h + (6 - h) = 6 by omega] at this
theorem ml_P_lo {v : Nat → Int32} {e h lo len : Nat} (hl : len ≤ 2 ^ h) : ml_P v e (h + 1) lo len = ml_P v e h lo len := if_pos hl
theorem ml_P_r {v : Nat → Int32} {e h lo len : Nat} (hl : ¬ len ≤ 2 ^ h) (he : lo + 2 ^ h ≤ e) : ml_P v e (h + 1) lo len = ml_M v 6 lo (2 ^ h) :: ml_P v e h (lo + 2 ^ h) (len - 2 ^ h) := (if_neg hl).trans (if_pos he)
theorem ml_P_l {v : Nat → Int32} {e h lo len : Nat} (hl : ¬ len ≤ 2 ^ h) (he : ¬ lo + 2 ^ h ≤ e) : ml_P v e (h + 1) lo len = ml_M v 6 (lo + 2 ^ h) (len - 2 ^ h) :: ml_P v e h lo (2 ^ h) := (if_neg hl).trans (if_neg he)
theorem ml_P_len (v : Nat → Int32) (e : Nat) : ∀ h lo len, (ml_P v e h lo len).length ≤ h := by
  intro h
  induction h with
  | zero => intro lo len; exact Nat.le_refl 0
  | succ h ih =>
    intro lo len
    by_cases hl : len ≤ 2 ^ h
    · rw [ml_P_lo hl]
      exact Nat.le_succ_of_le (ih lo len)
    · by_cases he : lo + 2 ^ h ≤ e
      · rw [ml_P_r hl he]
        exact Nat.succ_le_succ (ih _ _)
      · rw [ml_P_l hl he]
        exact Nat.succ_le_succ (ih _ _)
theorem ml_cl_lo {h len : Nat} (hl : len ≤ 2 ^ h) : ml_cl (h + 1) len = ml_cl h len := if_pos hl
theorem ml_cl_hi {h len : Nat} (hl : ¬ len ≤ 2 ^ h) : ml_cl (h + 1) len = h + 1 := if_neg hl
theorem ml_cl_full (h : Nat) : ml_cl h (2 ^ h) = h := by
  cases h with
  | zero => rfl
  | succ h => exact ml_cl_hi (by have := Nat.two_pow_pos h; omega)
theorem ml_cl_in : ∀ h len, len ≤ 2 ^ h → ml_cl h len ≤ h ∧ len ≤ 2 ^ ml_cl h len := by
  intro h
  induction h with
  | zero => intro len hl; exact ⟨Nat.le_refl 0, hl⟩
  | succ h ih =>
    intro len hl
    by_cases hs : len ≤ 2 ^ h
    · rw [ml_cl_lo hs]
      exact ⟨Nat.le_succ_of_le (ih len hs).1, (ih len hs).2⟩
    · rw [ml_cl_hi hs]
      exact ⟨Nat.le_refl _, hl⟩
/-- turned round -/
theorem ml_DH {a b : Nat → Int32} : ∀ (q : List Int32) (s m : Nat), m = s + q.length → (∀ k, k < m → b k = a (m - 1 - k)) → ml_D a s q → ml_H b q := by
  intro q
  induction q with
  | nil => intro s m _ _ _; trivial
  | cons x q ih =>
    intro s m hm hb hd
    have hm' : m = s + (q.length + 1) := hm
    refine ⟨?_, ih (s + 1) m (by omega) hb hd.2⟩
    rw [hb q.length (by omega), show m - 1 - q.length = s by omega]
    exact hd.1
theorem ml_D_keep {a b : Nat → Int32} : ∀ (q : List Int32) (s : Nat), (∀ k, s ≤ k → b k = a k) → ml_D a s q → ml_D b s q := by
  intro q
  induction q with
  | nil => intro s _ _; trivial
  | cons x q ih => intro s hb hd; exact ⟨(hb s (Nat.le_refl s)).trans hd.1, ih (s + 1) (fun k hk => hb k (by omega)) hd.2⟩
/-! places of the parts' row -/
theorem ml_six {P : Nat → Prop} (h0 : P 0) (h1 : P 1) (h2 : P 2) (h3 : P 3) (h4 : P 4) (h5 : P 5) : ∀ l, l ≤ 5 → P l := by
  intro l hl
  have : l = 0 ∨ l = 1 ∨ l = 2 ∨ l = 3 ∨ l = 4 ∨ l = 5 := by omega
  rcases this with rfl | rfl | rfl | rfl | rfl | rfl
  · exact h0
  · exact h1
  · exact h2
  · exact h3
  · exact h4
  · exact h5
/-- the end of a level's row -/
def ml_end (l : Nat) : Nat := match l with
  | 0 => 40
  | 1 => 60
  | 2 => 70
  | 3 => 75
  | 4 => 77
  | _ => 78
theorem ml_in : ∀ l, l ≤ 5 → ∀ i, (i + 1) * 2 ^ l ≤ 40 → ml_fst l + i < ml_end l := by
  refine ml_six ?_ ?_ ?_ ?_ ?_ ?_
  · intro i h; show 0 + i < 40; omega
  · intro i h; show 40 + i < 60; omega
  · intro i h; show 60 + i < 70; omega
  · intro i h; show 70 + i < 75; omega
  · intro i h; show 75 + i < 77; omega
  · intro i h; show 77 + i < 78; omega
theorem ml_end78 : ∀ l, l ≤ 5 → ml_end l ≤ 78 := by decide
theorem ml_sep : ∀ l, l ≤ 5 → ∀ k, k ≤ 5 → l < k → ml_end l ≤ ml_fst k := by decide
theorem ml_inj {l i k j : Nat} (hl : l ≤ 5) (hk : k ≤ 5) (hi : (i + 1) * 2 ^ l ≤ 40) (hj : (j + 1) * 2 ^ k ≤ 40) (h : ml_fst l + i = ml_fst k + j) : l = k ∧ i = j := by
  have h1 := ml_in l hl i hi
  have h2 := ml_in k hk j hj
  rcases Nat.lt_trichotomy l k with z | z | z
  · have := ml_sep l hl k hk z
    omega
  · subst z
    exact ⟨rfl, by omega⟩
  · have := ml_sep k hk l hl z
    omega
theorem ml_in80 {l i : Nat} (hl : l ≤ 5) (hi : (i + 1) * 2 ^ l ≤ 40) : ml_fst l + i < 80 := by
  have := ml_in l hl i hi
  have := ml_end78 l hl
  omega
theorem ml_pow5 {l : Nat} (hl : l ≤ 5) : 2 ^ l ≤ 32 := Nat.pow_le_pow_right (n := 2) (by decide) hl
end
section
theorem ml_mixw {post : Int32 → Prop} {x k : Int32} (h : post (ml_mix x k)) : wpX_mix post () x k := fun y ey z ez => by
  subst ey
  subst ez
  exact h
theorem ml_leafw {post : Int32 → Prop} {x : Int32} (h : post (ml_leaf x)) : wpX_leaf post () x := by
  unfold wpX_leaf
  exact ml_mixw h
theorem ml_nodew {post : Int32 → Prop} {a b : Int32} (h : post (ml_node a b)) : wpX_node post () a b := by
  unfold wpX_node
  exact ml_mixw (post := fun r_1 => wpX_mix (fun r_2 => post r_2) () (r_1 ^^^ b) 3) (ml_mixw h)
theorem ml_firstw {post : Int32 → Prop} : ∀ l : Nat, l ≤ 5 → post (nI (ml_fst l)) → wpX_first post () (nI l)
  | 0, _, h => br_t rfl h
  | 1, _, h => br_f (by decide) (br_t rfl h)
  | 2, _, h => br_f (by decide) (br_f (by decide) (br_t rfl h))
  | 3, _, h => br_f (by decide) (br_f (by decide) (br_f (by decide) (br_t rfl h)))
  | 4, _, h => br_f (by decide) (br_f (by decide) (br_f (by decide) (br_f (by decide) (br_t rfl h))))
  | 5, _, h => br_f (by decide) (br_f (by decide) (br_f (by decide) (br_f (by decide) (br_f (by decide) h))))
  | _ + 6, hl, _ => absurd hl (by omega)
/-- the greatest power of 2 below the size -/
theorem ml_cutw {post : Int32 → Prop} {h len : Nat} (h5 : h ≤ 5) (h1 : 2 ^ h < len) (h2 : len ≤ 2 ^ (h + 1)) (H : post (nI (2 ^ h))) : wpX_cut post () (nI len) := by
  have hp := ml_pow5 h5
  refine Exists.elim (pk_loop (σ := Unit) (fun n k _ => wX_cut_4 post (nI len) n (nI (2 ^ k)) (nI k)) (fun _ _ => True) h 0 () (by omega) trivial ?_ ?_) (fun n hn => ⟨n, hn⟩)
  · intro n _ _
    exact pk_le 6 h (fun z => absurd z (by omega)) (fun _ => pk_le len (2 * 2 ^ h) (fun _ => H) (fun z => absurd z (by omega)) (hy := pk_mul 2 (2 ^ h)))
  · intro n k _ hk _ hw
    have hq : 2 ^ (k + 1) ≤ 2 ^ h := Nat.pow_le_pow_right (by decide) hk
    refine pk_le 6 k (fun z => absurd z (by omega)) (fun _ => pk_le len (2 * 2 ^ k) (fun z => absurd z (by omega)) (fun _ => ?_) (hy := pk_mul 2 (2 ^ k)))
    exact nm_r (pk_mul (2 ^ k) 2) (nm_r (nI_1 k) (hw () trivial))
theorem ml_one : ∀ l, l < 6 → (1 : Int32) <<< (nI l &&& 31) = nI (2 ^ l) := by decide +kernel
theorem ml_bit : ∀ l, l < 6 → ∀ m, m < 41 → (nI m &&& nI (2 ^ l) = 0 ↔ m / 2 ^ l % 2 = 0) := by decide +kernel
theorem ml_shr : ∀ l, l < 6 → ∀ x, x < 41 → nI x >>> (nI l &&& 31) = nI (x / 2 ^ l) := by decide +kernel
/-- behind the levels below l: what stands in r, end, some -/
def ml_rI (v : Nat → Int32) (lo len l : Nat) (s : Int32 × Int32 × Int32) : Prop :=
  s.2.1 = nI (lo + len - len % 2 ^ l) ∧ ((len % 2 ^ l = 0 ∧ s.2.2 = 0) ∨ (0 < len % 2 ^ l ∧ s.2.2 = 1 ∧ s.1 = ml_M v l (lo + len - len % 2 ^ l) (len % 2 ^ l)))
/-- the place of the part that ends the range at level l -/
theorem ml_place {lo len l : Nat} (hA : lo % 2 ^ l = 0) (hb : len / 2 ^ l % 2 = 1) : ∃ i, (i + 1) * 2 ^ l = lo + len - len % 2 ^ l := by
  have e1 := Nat.div_add_mod lo (2 ^ l)
  have e2 := Nat.div_add_mod len (2 ^ l)
  refine ⟨lo / 2 ^ l + (len / 2 ^ l - 1), ?_⟩
  have hq : 0 < len / 2 ^ l := by
    rcases Nat.eq_zero_or_pos (len / 2 ^ l) with z | z
    · rw [z] at hb
      exact absurd hb (by decide)
    · exact z
  rw [show lo / 2 ^ l + (len / 2 ^ l - 1) + 1 = lo / 2 ^ l + len / 2 ^ l by omega, Nat.add_mul, Nat.mul_comm _ (2 ^ l), Nat.mul_comm _ (2 ^ l)]
  omega
theorem ml_rr {post : Int32 → Prop} {v a1 a2 a3 : Nat → Int32} {f0 f1 f2 : Int32} {n lo len : Nat} (hn : n ≤ 40) (hK : ml_K v n a1) (h0 : 0 < len) (hl : lo + len ≤ n) (hA : ∀ l, 2 ^ l ≤ len → lo % 2 ^ l = 0) (H : post (ml_M v 6 lo len)) :
    ∃ fu, wX_rangeRoot_11 post (nI lo) (nI (lo + len)) f0 f1 f2 a1 a2 a3 fu 0 (nI (lo + len)) 0 0 := by
  refine Exists.elim (pk_loop (σ := Int32 × Int32 × Int32) (fun n i s => wX_rangeRoot_11 post (nI lo) (nI (lo + len)) f0 f1 f2 a1 a2 a3 n s.1 s.2.1 s.2.2 (nI i)) (ml_rI v lo len) 6 0 (0, nI (lo + len), 0) (by omega) ⟨?_, Or.inl ⟨?_, rfl⟩⟩ ?_ ?_) (fun n hn => ⟨n, hn⟩)
  · show nI (lo + len) = nI (lo + len - len % 1)
    rw [Nat.mod_one, Nat.sub_zero]
  · exact Nat.mod_one len
  · intro fu s hI
    obtain ⟨x3, x4, x5⟩ := s
    obtain ⟨_, hc⟩ := hI
    have hm : len % 2 ^ 6 = len := Nat.mod_eq_of_lt (by omega)
    rw [hm] at hc
    refine pk_le 6 6 (fun _ => ?_) (fun z => absurd z (by omega))
    rcases hc with hc | hc
    · exact absurd hc.1 (by omega)
    · have e : x3 = ml_M v 6 (lo + len - len) len := hc.2.2
      rw [Nat.add_sub_cancel] at e
      rw [e]
      exact H
  · intro fu l s hl6 hI hw
    obtain ⟨x3, x4, x5⟩ := s
    obtain ⟨e4, hc⟩ := hI
    dsimp only at e4 hc
    subst e4
    have hp := ml_pow5 (l := l) (by omega)
    have hmp := Nat.mod_lt len (Nat.two_pow_pos l)
    have hms := Nat.mod_pow_succ (x := len) (b := 2) (k := l)
    refine pk_le 6 l (fun z => absurd z (by omega)) (fun _ => nm_r (ml_one l hl6) ?_)
    have hbit : (nI (lo + len) - nI lo) &&& nI (2 ^ l) = 0 ↔ len / 2 ^ l % 2 = 0 := by
      rw [pk_sub (by omega), show lo + len - lo = len by omega]
      exact ml_bit l hl6 len (by omega)
    refine ek_if hbit (fun z => nm_r (nI_1 l) (hw (x3, _, x5) ?_)) (fun z => ?_)
    · have hms : len % 2 ^ (l + 1) = len % 2 ^ l := by
        rw [Nat.mod_pow_succ, z, Nat.mul_zero]
        rfl
      refine ⟨by rw [hms], ?_⟩
      rw [hms]
      rcases hc with hc | hc
      · exact Or.inl hc
      · refine Or.inr ⟨hc.1, hc.2.1, ?_⟩
        rw [ml_M_lo (by omega)]
        exact hc.2.2
    · have z1 : len / 2 ^ l % 2 = 1 := by omega
      rw [z1, Nat.mul_one] at hms
      have hle : 2 ^ l ≤ len := by
        have := Nat.mod_le len (2 ^ (l + 1))
        omega
      obtain ⟨i, hi⟩ := ml_place (hA l hle) z1
      have hi40 : (i + 1) * 2 ^ l ≤ 40 := by omega
      have his : i * 2 ^ l = lo + len - len % 2 ^ l - 2 ^ l := by
        rw [← hi, Nat.add_mul, Nat.one_mul, Nat.add_sub_cancel]
      have hend : nI (lo + len - len % 2 ^ l) - nI (2 ^ l) = nI (i * 2 ^ l) := by
        rw [pk_sub (by rw [← hi, Nat.add_mul]; omega), his]
      have hidx : nI (ml_fst l) + ((nI (lo + len - len % 2 ^ l) - nI (2 ^ l)) >>> (nI l &&& 31)) = nI (ml_fst l + i) := by
        rw [hend, ml_shr l hl6 _ (by omega), Nat.mul_div_cancel _ (Nat.two_pow_pos l), nI_add]
      have h80 := ml_in80 (l := l) (by omega) hi40
      have hpart : a1 (ml_fst l + i) = ml_M v l (i * 2 ^ l) (2 ^ l) := by
        rw [ml_Mfull]
        exact hK l i (by omega) (by omega)
      have hend' : lo + len - len % 2 ^ (l + 1) = i * 2 ^ l := by omega
      refine ml_firstw l (by omega) ⟨pk_in (ml_fst l + i) 80 h80 hidx, nm_r (by rw [hidx, nI_clamp (by omega)]) ?_⟩
      rcases hc with hc | hc
      · refine br_t hc.2 (nm_r hend (nm_r (nI_1 l) (hw (_, _, 1) ⟨?_, Or.inr ⟨by omega, rfl, ?_⟩⟩)))
        · show nI (i * 2 ^ l) = _
          rw [hend']
        · show a1 (ml_fst l + i) = _
          rw [hend', hms, hc.1, Nat.zero_add, ml_M_lo (Nat.le_refl _)]
          exact hpart
      · refine br_f (by show ¬ x5 = 0; rw [hc.2.1]; decide) (ml_nodew (nm_r hend (nm_r (nI_1 l) (hw (_, _, 1) ⟨?_, Or.inr ⟨by omega, rfl, ?_⟩⟩))))
        · show nI (i * 2 ^ l) = _
          rw [hend']
        · show ml_node (a1 (ml_fst l + i)) x3 = _
          rw [hend', hms, ml_M_hi (by omega), Nat.add_sub_cancel, hpart, hc.2.2, show i * 2 ^ l + 2 ^ l = lo + len - len % 2 ^ l by rw [← hi, Nat.add_mul, Nat.one_mul]]
theorem ml_rangew {post : Int32 → Prop} {v a1 a2 a3 : Nat → Int32} {f0 f1 f2 : Int32} {n lo len : Nat} (hn : n ≤ 40) (hK : ml_K v n a1) (h0 : 0 < len) (hl : lo + len ≤ n) (hA : ∀ l, 2 ^ l ≤ len → lo % 2 ^ l = 0) (H : post (ml_M v 6 lo len)) :
    wpX_rangeRoot post (f0, f1, f2, a1, a2, a3) (nI lo) (nI (lo + len)) := ml_rr hn hK h0 hl hA H
/-- what root answers -/
def ml_root (v : Nat → Int32) (s : Nat) : Int32 := if s = 0 then 0 else ml_M v 6 0 s
theorem ml_rootw {post : Int32 → Prop} {v a1 a2 a3 : Nat → Int32} {f1 f2 : Int32} {n s : Nat} (hn : n ≤ 40) (hK : ml_K v n a1) (hs : s ≤ n) (H : post (ml_root v s)) : wpX_root post (nI n, f1, f2, a1, a2, a3) (nI s) := by
  unfold ml_root at H
  refine pk_lt s 1 (fun z => ?_) (fun z => pk_le s n (fun _ => ?_) (fun z => absurd z (by omega)))
  · rw [if_pos (by omega)] at H
    exact H
  · rw [if_neg (by omega)] at H
    have := ml_rangew (post := fun r_3 => post r_3) (v := v) (a1 := a1) (a2 := a2) (a3 := a3) (f0 := nI n) (f1 := f1) (f2 := f2) (n := n) (lo := 0) (len := s) hn hK (by omega) (by omega) (fun l _ => Nat.zero_mod _) H
    rw [Nat.zero_add] at this
    exact this
end
section
theorem ml_firstx {post : Int32 → Prop} {x : Int32} (l : Nat) (hx : x = nI l) (hl : l ≤ 5) (h : post (nI (ml_fst l))) : wpX_first post () x := by
  subst hx
  exact ml_firstw l hl h
/-- the parts' row while an entry is taken: all old parts, and the new ones up to level l -/
def ml_aI (v : Nat → Int32) (n l : Nat) (a : Nat → Int32) : Prop := ∀ k i, k ≤ 5 → (i + 1) * 2 ^ k ≤ n + 1 → ((i + 1) * 2 ^ k = n + 1 → k ≤ l) → a (ml_fst k + i) = ml_F v k i
theorem ml_even {x y l k : Nat} (h : y * 2 ^ k = x * 2 ^ l) (hk : l < k) : x % 2 = 0 := by
  obtain ⟨d, rfl⟩ : ∃ d, k = l + (d + 1) := ⟨k - l - 1, by omega⟩
  have h2 : x * 2 ^ l = (y * 2 ^ d * 2) * 2 ^ l := by
    rw [← h, Nat.pow_add, Nat.pow_succ, Nat.mul_comm (2 ^ l) (2 ^ d * 2), ← Nat.mul_assoc, ← Nat.mul_assoc]
  rw [Nat.eq_of_mul_eq_mul_right (Nat.two_pow_pos l) h2]
  exact Nat.mul_mod_left _ _
theorem ml_and1 : ∀ x, x < 64 → (nI x &&& 1 = 0 ↔ x % 2 = 0) := by decide +kernel
theorem ml_div2 : ∀ x, x < 64 → nI (2 * x) / 2 = nI x := by decide +kernel
theorem ml_aI_up {v a : Nat → Int32} {n l y : Nat} (hn : n < 40) (hl : l + 1 ≤ 5) (hy : (y + 1) * 2 ^ (l + 1) = n + 1) (hI : ml_aI v n l a) : ml_aI v n (l + 1) (upd a (ml_fst (l + 1) + y) (ml_F v (l + 1) y)) := by
  intro k i hk hi hle
  by_cases hp : ml_fst k + i = ml_fst (l + 1) + y
  · obtain ⟨e1, e2⟩ := ml_inj hk hl (by omega) (by omega) hp
    subst e1
    subst e2
    exact pk_us
  · rw [pk_un hp]
    refine hI k i hk hi (fun he => ?_)
    have h1 := hle he
    rcases Nat.lt_or_ge l k with z | z
    · have e : k = l + 1 := by omega
      subst e
      have := Nat.eq_of_mul_eq_mul_right (Nat.two_pow_pos (l + 1)) (he.trans hy.symm)
      exact absurd (by rw [show i = y by omega]) hp
    · exact z
theorem ml_ap {post : Int32 → St1 → Prop} {v a2 a3 : Nat → Int32} {f1 f2 : Int32} {n : Nat} (hn : n < 40) (H : ∀ a, ml_K v (n + 1) a → post (nI (n + 1)) (nI (n + 1), f1, f2, a, a2, a3)) :
    ∀ d l x a, l + d = 5 → x * 2 ^ l = n + 1 → ml_aI v n l a → ∃ fu, wX_append_41 post (nI (n + 1)) f1 f2 fu (nI x) (nI l) a a2 a3 := by
  intro d
  induction d with
  | zero =>
    intro l x a hl hx hI
    exact ⟨1, pk_le 5 l (fun _ => H a (fun k i hk hi => hI k i hk hi (fun _ => by omega))) (fun z => absurd z (by omega))⟩
  | succ d ih =>
    intro l x a hl hx hI
    have hx40 : x ≤ 40 := by
      have := Nat.le_mul_of_pos_right x (Nat.two_pow_pos l)
      omega
    have hbit := ml_and1 x (by omega)
    by_cases hx2 : x % 2 = 0
    · obtain ⟨y, rfl⟩ : ∃ y, x = 2 * (y + 1) := by
        refine ⟨x / 2 - 1, ?_⟩
        have : x ≠ 0 := by
          intro z
          subst z
          rw [Nat.zero_mul] at hx
          omega
        omega
      have hy : (y + 1) * 2 ^ (l + 1) = n + 1 := by
        rw [← hx, Nat.pow_succ, Nat.mul_comm (2 ^ l) 2, ← Nat.mul_assoc, Nat.mul_comm (y + 1) 2]
      have hlm : (2 * y + 1) * 2 ^ l ≤ n + 1 := by
        rw [← hx]
        exact Nat.mul_le_mul_right _ (by omega)
      have hrm : (2 * y + 1 + 1) * 2 ^ l = n + 1 := hx
      have hL : a (ml_fst l + 2 * y) = ml_F v l (2 * y) := hI l (2 * y) (by omega) hlm (fun _ => Nat.le_refl l)
      have hR : a (ml_fst l + (2 * y + 1)) = ml_F v l (2 * y + 1) := hI l (2 * y + 1) (by omega) (by omega) (fun _ => Nat.le_refl l)
      have p1 := ml_in80 (l := l) (i := 2 * y) (by omega) (by omega)
      have p2 := ml_in80 (l := l) (i := 2 * y + 1) (by omega) (by omega)
      have p3 := ml_in80 (l := l + 1) (i := y) (by omega) (by omega)
      have i1 : nI (ml_fst l) + 2 * nI (y + 1) - 2 = nI (ml_fst l + 2 * y) := by
        show nI (ml_fst l) + nI 2 * nI (y + 1) - nI 2 = _
        rw [pk_mul, nI_add, pk_sub (by omega), show ml_fst l + 2 * (y + 1) - 2 = ml_fst l + 2 * y by omega]
      have i2 : nI (ml_fst l) + 2 * nI (y + 1) - 1 = nI (ml_fst l + (2 * y + 1)) := by
        show nI (ml_fst l) + nI 2 * nI (y + 1) - nI 1 = _
        rw [pk_mul, nI_add, pk_sub (by omega), show ml_fst l + 2 * (y + 1) - 1 = ml_fst l + (2 * y + 1) by omega]
      have i3 : nI (ml_fst (l + 1)) + nI (y + 1) - 1 = nI (ml_fst (l + 1) + y) := by
        show nI (ml_fst (l + 1)) + nI (y + 1) - nI 1 = _
        rw [nI_add, pk_sub (by omega), show ml_fst (l + 1) + (y + 1) - 1 = ml_fst (l + 1) + y by omega]
      obtain ⟨fu, hf⟩ := ih (l + 1) (y + 1) _ (by omega) hy (ml_aI_up hn (by omega) hy hI)
      refine ⟨fu + 1, pk_le 5 l (fun z => absurd z (by omega)) (fun _ => br_t (hbit.mpr hx2) ⟨by decide, nm_r (ml_div2 (y + 1) (by omega)) ?_⟩)⟩
      refine ml_firstw l (by omega) ⟨pk_in _ 80 p1 i1, nm_r (e' := ml_F v l (2 * y)) (by rw [i1, nI_clamp (by omega), hL]) ?_⟩
      refine ml_firstw l (by omega) ⟨pk_in _ 80 p2 i2, nm_r (e' := ml_F v l (2 * y + 1)) (by rw [i2, nI_clamp (by omega), hR]) ?_⟩
      refine ml_firstx (l + 1) (nI_1 l) (by omega) (ml_nodew ⟨pk_in _ 80 p3 i3, nm_r (by rw [i3, nI_clamp (by omega)]) (nm_r (nI_1 l) ?_)⟩)
      exact hf
    · refine ⟨1, pk_le 5 l (fun z => absurd z (by omega)) (fun _ => br_f (fun z => hx2 (hbit.mp z)) (H a (fun k i hk hi => hI k i hk hi (fun he => ?_))))⟩
      rcases Nat.lt_or_ge l k with z | z
      · exact absurd (ml_even (he.trans hx.symm) z) hx2
      · exact z
theorem ml_appendw {post : Int32 → St1 → Prop} {v a1 a2 a3 : Nat → Int32} {f1 f2 : Int32} {n : Nat} (hn : n < 40) (hK : ml_K v n a1) (H : ∀ a, ml_K v (n + 1) a → post (nI (n + 1)) (nI (n + 1), f1, f2, a, a2, a3)) : wpX_append post (nI n, f1, f2, a1, a2, a3) (v n) := by
  refine pk_lt n 40 (fun _ => ml_leafw ⟨pk_in n 80 (by omega), nm_r (e' := upd a1 n (ml_leaf (v n))) (by rw [nI_clamp (by omega)]) (nm_r (nI_1 n) (ml_ap hn H 5 0 (n + 1) _ rfl (by rw [Nat.pow_zero, Nat.mul_one]) ?_))⟩) (fun z => absurd z (by omega))
  intro k i hk hi hle
  by_cases he : (i + 1) * 2 ^ k = n + 1
  · have hk0 : k = 0 := by
      have := hle he
      omega
    subst hk0
    rw [Nat.pow_zero, Nat.mul_one] at he
    have hin : i = n := by omega
    subst hin
    show upd a1 i _ (0 + i) = _
    rw [Nat.zero_add, pk_us]
    rfl
  · have hp : ml_fst k + i ≠ n := by
      intro z
      have := ml_inj (l := k) (i := i) (k := 0) (j := n) hk (by omega) (by omega) (by omega) (z.trans (Nat.zero_add n).symm)
      rw [this.1, this.2, Nat.pow_zero, Nat.mul_one] at he
      exact he rfl
    rw [pk_un hp]
    exact hK k i hk (by omega)
theorem ml_append40 {post : Int32 → St1 → Prop} {u : Int32 × Int32 × (Nat → Int32) × (Nat → Int32) × (Nat → Int32)} {x : Int32} (H : post (-1) (nI 40, u)) : wpX_append post (nI 40, u) x := pk_lt 40 40 (fun z => absurd z (by omega)) (fun _ => H)
end
section
theorem ml_al {lo c h len : Nat} (hlo : lo = c * 2 ^ h) (hl : len ≤ 2 ^ h) (l : Nat) (h2 : 2 ^ l ≤ len) : lo % 2 ^ l = 0 := by
  have hle : l ≤ h := (Nat.pow_le_pow_iff_right (by decide : 1 < 2)).mp (Nat.le_trans h2 hl)
  rw [hlo]
  exact Nat.mod_eq_zero_of_dvd (Nat.dvd_trans (Nat.pow_dvd_pow 2 hle) (Nat.dvd_mul_left _ _))
theorem ml_notew {post : St1 → Prop} {v a1 a2 a3 : Nat → Int32} {f1 : Int32} {n lo len f : Nat} (hf : f < 16) (hn : n ≤ 40) (hK : ml_K v n a1) (h0 : 0 < len) (hl : lo + len ≤ n) (hA : ∀ l, 2 ^ l ≤ len → lo % 2 ^ l = 0)
    (H : post (nI n, f1, nI (f + 1), a1, a2, upd a3 f (ml_M v 6 lo len))) : wpX_note post (nI n, f1, nI f, a1, a2, a3) (nI lo) (nI (lo + len)) := by
  unfold wpX_note
  dsimp only
  exact ml_rangew hn hK h0 hl hA ⟨pk_in f 16 hf, nm_r (e' := upd a3 f (ml_M v 6 lo len)) (by rw [nI_clamp (by omega)]) (nm_r (nI_1 f) H)⟩
theorem ml_turnw {post : St1 → Prop} {a1 a2 a3 : Nat → Int32} {f0 f1 : Int32} {m : Nat} (hm : m ≤ 16) (H : ∀ b, (∀ k, k < m → b k = a3 (m - 1 - k)) → post (f0, nI m, nI m, a1, b, a3)) : wpX_turnRound post (f0, f1, nI m, a1, a2, a3) := by
  refine pk_loop (fun n i s => wX_turnRound_10 post f0 (nI m) (nI m) n (nI i) a1 s a3) (fun i s => ∀ k, k < i → s k = a3 (m - 1 - k)) m 0 a2 (by omega) (fun j hj => absurd hj (by omega)) ?_ ?_
  · intro n s h
    exact pk_le m m (fun _ => H s h) (fun z => absurd z (by omega))
  · intro n i s hi h hw
    have he : nI m - 1 - nI i = nI (m - 1 - i) := by
      show nI m - nI 1 - nI i = _
      rw [pk_sub (by omega), pk_sub (by omega)]
    refine pk_le m i (fun z => absurd z (by omega)) (fun _ => ⟨pk_in (m - 1 - i) 16 (by omega) he, pk_in i 16 (by omega), nm_r (e' := upd s i (a3 (m - 1 - i))) (by rw [he, nI_clamp (by omega), nI_clamp (by omega)]) (nm_r (nI_1 i) (hw _ ?_))⟩)
    intro k hk
    by_cases e : k = i
    · rw [e, pk_us]
    · rw [pk_un e]
      exact h k (by omega)
theorem ml_path37 {post : Int32 → St1 → Prop} {v a1 a2 : Nat → Int32} {f1 : Int32} {n e : Nat} (hn : n ≤ 40) (hK : ml_K v n a1) :
    ∀ h lo len step c a3, step + h ≤ 6 → lo = c * 2 ^ h → 0 < len → len ≤ 2 ^ h → lo ≤ e → e < lo + len → lo + len ≤ n →
      (∀ b, (∀ j, j < step → b j = a3 j) → ml_D b step (ml_P v e h lo len) → wX_path_100 post (nI n) f1 (nI (step + (ml_P v e h lo len).length)) a1 a2 b) →
      ∃ fu, wX_path_37 post (nI e) fu (nI lo) (nI (lo + len)) (nI step) (nI n) f1 (nI step) a1 a2 a3 := by
  intro h
  induction h with
  | zero =>
    intro lo len step c a3 _ _ h0 h1 _ _ hl H
    have H' : wX_path_100 post (nI n) f1 (nI step) a1 a2 a3 := H a3 (fun _ _ => rfl) trivial
    refine ⟨1, br_c (fun _ => H') (fun _ => pk_le len 1 (fun _ => H') (fun z => absurd z (by omega)) ?_)⟩
    rw [pk_sub (by omega), show lo + len - lo = len by omega]
  | succ h ih =>
    intro lo len step c a3 hs hlo h0 h1 e1 e2 hl H
    have hp := ml_pow5 (l := h) (by omega)
    have hp0 := Nat.two_pow_pos h
    have hlo2 : lo = (2 * c) * 2 ^ h := by
      rw [hlo, Nat.pow_succ, Nat.mul_comm (2 ^ h) 2, ← Nat.mul_assoc, Nat.mul_comm c 2]
    by_cases hh : len ≤ 2 ^ h
    · rw [ml_P_lo hh] at H
      exact ih lo len step (2 * c) a3 (by omega) hlo2 h0 hh e1 e2 hl H
    · have hmid : lo + 2 ^ h = (2 * c + 1) * 2 ^ h := by
        rw [Nat.add_mul, Nat.one_mul, ← hlo2]
      have hlen : nI (lo + len) - nI lo = nI len := by
        rw [pk_sub (by omega), show lo + len - lo = len by omega]
      by_cases he : lo + 2 ^ h ≤ e
      · rw [ml_P_r hh he] at H
        obtain ⟨fu, hf⟩ := ih (lo + 2 ^ h) (len - 2 ^ h) (step + 1) (2 * c + 1) (upd a3 step (ml_M v 6 lo (2 ^ h))) (by omega) hmid (by omega) (by omega) he (by omega) (by omega) (fun b hb hd => by
          have := H b (fun j hj => by rw [hb j (by omega), pk_un (by omega)]) ⟨by rw [hb step (by omega), pk_us], hd⟩
          rw [List.length_cons, ← Nat.add_assoc, Nat.add_right_comm] at this
          exact this)
        rw [show lo + 2 ^ h + (len - 2 ^ h) = lo + len by omega] at hf
        refine ⟨fu + 1, pk_le 6 step (fun z => absurd z (by omega)) (fun _ => pk_le len 1 (fun z => absurd z (by omega)) (fun _ => ?_) hlen)⟩
        rw [hlen]
        refine ml_cutw (h := h) (by omega) (by omega) h1 (nm_r (nI_add lo (2 ^ h)) (pk_le (lo + 2 ^ h) e (fun _ => ?_) (fun z => absurd z (by omega))))
        exact ml_notew (by omega) hn hK (by omega) (by omega) (ml_al hlo2 (Nat.le_refl _)) (nm_r (nI_1 step) hf)
      · rw [ml_P_l hh he] at H
        obtain ⟨fu, hf⟩ := ih lo (2 ^ h) (step + 1) (2 * c) (upd a3 step (ml_M v 6 (lo + 2 ^ h) (len - 2 ^ h))) (by omega) hlo2 (by omega) (Nat.le_refl _) e1 (by omega) (by omega) (fun b hb hd => by
          have := H b (fun j hj => by rw [hb j (by omega), pk_un (by omega)]) ⟨by rw [hb step (by omega), pk_us], hd⟩
          rw [List.length_cons, ← Nat.add_assoc, Nat.add_right_comm] at this
          exact this)
        refine ⟨fu + 1, pk_le 6 step (fun z => absurd z (by omega)) (fun _ => pk_le len 1 (fun z => absurd z (by omega)) (fun _ => ?_) hlen)⟩
        rw [hlen]
        refine ml_cutw (h := h) (by omega) (by omega) h1 (nm_r (nI_add lo (2 ^ h)) (pk_le (lo + 2 ^ h) e (fun z => absurd z (by omega)) (fun _ => ?_)))
        have hn2 := ml_notew (post := fun u => match u with | (f0_entries_38, f0_count_39, f0_found_40, am741_43, am742_46, am743_49) => (∀ x5_50 : Int32, x5_50 = nI step + 1 → (wX_path_37 post (nI e) fu (nI lo) (nI (lo + 2 ^ h)) x5_50 f0_entries_38 f0_count_39 f0_found_40 am741_43 am742_46 am743_49))) (a2 := a2) (a3 := a3) (f1 := f1) (f := step) (lo := lo + 2 ^ h) (len := len - 2 ^ h) (by omega) hn hK (by omega) (by omega) (ml_al hmid (by omega)) (nm_r (nI_1 step) hf)
        rw [show lo + 2 ^ h + (len - 2 ^ h) = lo + len by omega] at hn2
        exact hn2
theorem ml_pathw {post : Int32 → St1 → Prop} {v a1 a2 a3 : Nat → Int32} {f1 f2 : Int32} {n e S : Nat} (hn : n ≤ 40) (hK : ml_K v n a1) (hS : S ≤ n) (he : e < S)
    (H : ∀ m b c, m = (ml_P v e 6 0 S).length → ml_H b (ml_P v e 6 0 S) → post (nI m) (nI n, nI m, nI m, a1, b, c)) : wpX_path post (nI n, f1, f2, a1, a2, a3) (nI e) (nI S) := by
  refine pk_lt S 1 (fun z => absurd z (by omega)) (fun _ => pk_lt n S (fun z => absurd z (by omega)) (fun _ => pk_lt e 0 (fun z => absurd z (by omega)) (fun _ => pk_lt e S (fun _ => ?_) (fun z => absurd z (by omega)))))
  have hlen := ml_P_len v e 6 0 S
  have := ml_path37 (post := post) (a2 := a2) (f1 := f1) (e := e) hn hK 6 0 S 0 0 a3 (by omega) (by omega) (by omega) (by omega) (by omega) (by omega) (by omega) (fun b _ hd => by
    rw [Nat.zero_add]
    unfold wX_path_100
    exact ml_turnw (by omega) (fun b' hb => H _ b' b rfl (ml_DH _ 0 _ (Nat.zero_add _).symm hb hd)))
  rw [Nat.zero_add] at this
  exact this
end
section
theorem ml_shr1 : ∀ x, x < 64 → nI x >>> ((1 : Int32) &&& 31) = nI (x / 2) := by decide +kernel
/-- the inner loop: down to an odd number, and one level more -/
theorem ml_86 {post : Int32 → Prop} {J : Int32 → Int32 → Int32 → Int32 → Prop} {r x7 f0 f1 f2 : Int32} {a1 a2 a3 : Nat → Int32} {c : Nat} :
    ∀ d t y, t + d ≤ 6 → (2 * c + 1) * 2 ^ d < 64 → y < 64 → J (nI c) (nI (y / 2 ^ (d + 1))) r (x7 + 1) → ∃ fu, wX_rootFrom_86 post J r x7 f0 f1 f2 a1 a2 a3 fu (nI ((2 * c + 1) * 2 ^ d)) (nI y) (nI t) := by
  intro d
  induction d with
  | zero =>
    intro t y ht hx hy H
    rw [Nat.pow_zero, Nat.mul_one] at hx ⊢
    have K : wX_rootFrom_118 post J (nI (2 * c + 1)) (nI y) r x7 f0 f1 f2 a1 a2 a3 := by
      unfold wX_rootFrom_118
      unfold wX_rootFrom_135
      refine nm_r (ml_shr1 _ hx) (nm_r (ml_shr1 _ hy) (nm_e ?_))
      rw [show (2 * c + 1) / 2 = c by omega]
      exact H
    exact ⟨1, br_c (fun _ => K) (fun _ => br_f (fun z => absurd ((ml_and1 _ hx).mp z) (by omega)) K)⟩
  | succ d ih =>
    intro t y ht hx hy H
    have ex : (2 * c + 1) * 2 ^ (d + 1) = 2 * ((2 * c + 1) * 2 ^ d) := by
      rw [Nat.pow_succ, ← Nat.mul_assoc, Nat.mul_comm]
    rw [ex] at hx ⊢
    obtain ⟨fu, hf⟩ := ih (t + 1) (y / 2) (by omega) (by omega) (by omega) (by
      rw [Nat.div_div_eq_div_mul, ← Nat.pow_succ']
      exact H)
    refine ⟨fu + 1, pk_le 6 t (fun z => absurd z (by omega)) (fun _ => br_t ((ml_and1 _ hx).mpr (by omega)) (nm_r (ml_shr1 _ hx) (nm_r (ml_shr1 _ hy) (nm_r (nI_1 t) ?_))))⟩
    rw [show 2 * ((2 * c + 1) * 2 ^ d) / 2 = (2 * c + 1) * 2 ^ d by omega]
    exact hf
section
variable {post : Int32 → Prop} {v a1 a2 a3 : Nat → Int32} {f0 f2 r : Int32} {cnt k x y c d S e fu : Nat}
/-- a sibling on the right -/
theorem ml_39l (hc : cnt ≤ 16) (hk : k < cnt) (hx : x < 64) (hy : y < 64) (h2 : x % 2 = 0) (hxy : x ≠ y) (hy0 : y ≠ 0)
    (H : wX_rootFrom_39 post f0 (nI cnt) f2 a1 a2 a3 fu (nI (x / 2)) (nI (y / 2)) (ml_node r (a2 k)) (nI (k + 1))) : wX_rootFrom_39 post f0 (nI cnt) f2 a1 a2 a3 (fu + 1) (nI x) (nI y) r (nI k) := by
  refine pk_le cnt k (fun z => absurd z (by omega)) (fun _ => pk_eq y 0 (fun z => absurd z hy0) (fun _ => br_t ((ml_and1 x hx).mpr h2) (pk_eq x y (fun z => absurd z hxy) (fun _ => ⟨pk_in k 16 (by omega), ?_⟩))))
  rw [nI_clamp (by omega)]
  exact ml_nodew (nm_r (ml_shr1 x hx) (nm_r (ml_shr1 y hy) (nm_r (nI_1 k) H)))
theorem ml_69 (hc : cnt ≤ 16) (hk : k < cnt) (hd : d ≤ 6) (hx : (2 * c + 1) * 2 ^ d < 64) (hy : y < 64)
    (H : wX_rootFrom_39 post f0 (nI cnt) f2 a1 a2 a3 fu (nI c) (nI (y / 2 ^ (d + 1))) (ml_node (a2 k) r) (nI (k + 1))) : wX_rootFrom_69 post (wX_rootFrom_39 post f0 (nI cnt) f2 a1 a2 a3 fu) (nI ((2 * c + 1) * 2 ^ d)) (nI y) r (nI k) f0 (nI cnt) f2 a1 a2 a3 := by
  unfold wX_rootFrom_69
  refine ⟨pk_in k 16 (by omega), ?_⟩
  rw [nI_clamp (by omega)]
  refine ml_nodew (ml_86 d 0 y (by omega) hx hy ?_)
  rw [nI_1]
  exact H
/-- a sibling on the left -/
theorem ml_39r (hc : cnt ≤ 16) (hk : k < cnt) (hd : d ≤ 6) (hx : (2 * c + 1) * 2 ^ d < 64) (hy : y < 64) (hy0 : y ≠ 0) (hxy : d = 0 ∨ (2 * c + 1) * 2 ^ d = y)
    (H : wX_rootFrom_39 post f0 (nI cnt) f2 a1 a2 a3 fu (nI c) (nI (y / 2 ^ (d + 1))) (ml_node (a2 k) r) (nI (k + 1))) : wX_rootFrom_39 post f0 (nI cnt) f2 a1 a2 a3 (fu + 1) (nI ((2 * c + 1) * 2 ^ d)) (nI y) r (nI k) := by
  have K := ml_69 (post := post) (f0 := f0) (f2 := f2) (a1 := a1) (a3 := a3) hc hk hd hx hy H
  refine pk_le cnt k (fun z => absurd z (by omega)) (fun _ => pk_eq y 0 (fun z => absurd z hy0) (fun _ => br_c (fun hb => pk_eq ((2 * c + 1) * 2 ^ d) y (fun _ => K) (fun z => ?_)) (fun _ => K)))
  have hb' := (ml_and1 _ hx).mp hb
  rcases hxy with h | h
  · subst h
    rw [Nat.pow_zero, Nat.mul_one] at hb'
    omega
  · exact absurd h z
theorem ml_rf (hS : S ≤ 40) (hc : cnt ≤ 16) : ∀ h, h ≤ 6 → ∀ lo len c, lo = c * 2 ^ h → 0 < len → len ≤ 2 ^ h → (len = 2 ^ h ∨ lo + len = S) → lo + len ≤ S → lo ≤ e → e < lo + len → ml_H a2 (ml_P v e h lo len) → (ml_P v e h lo len).length ≤ cnt →
    (∃ fu, wX_rootFrom_39 post f0 (nI cnt) f2 a1 a2 a3 fu (nI (e / 2 ^ ml_cl h len)) (nI ((S - 1) / 2 ^ ml_cl h len)) (ml_M v h lo len) (nI (ml_P v e h lo len).length)) →
    ∃ fu, wX_rootFrom_39 post f0 (nI cnt) f2 a1 a2 a3 fu (nI e) (nI (S - 1)) (ml_leaf (v e)) (nI 0) := by
  intro h
  induction h with
  | zero =>
    intro _ lo len c hlo h0 h1 hf hl e1 e2 hH hL H
    have he : lo = e := by
      rw [Nat.pow_zero] at h1
      omega
    subst he
    obtain ⟨fu, hw⟩ := H
    refine ⟨fu, ?_⟩
    have hw' : wX_rootFrom_39 post f0 (nI cnt) f2 a1 a2 a3 fu (nI (lo / 1)) (nI ((S - 1) / 1)) (ml_leaf (v lo)) (nI 0) := hw
    rw [Nat.div_one, Nat.div_one] at hw'
    exact hw'
  | succ h ih =>
    intro h6 lo len c hlo h0 h1 hf hl e1 e2 hH hL H
    have hp0 := Nat.two_pow_pos h
    have hlo2 : lo = (2 * c) * 2 ^ h := by
      rw [hlo, Nat.pow_succ, Nat.mul_comm (2 ^ h) 2, ← Nat.mul_assoc, Nat.mul_comm c 2]
    by_cases hh : len ≤ 2 ^ h
    · rw [ml_P_lo hh] at hH hL
      rw [ml_P_lo hh, ml_cl_lo hh, ml_M_lo hh] at H
      exact ih (by omega) lo len (2 * c) hlo2 h0 hh (by omega) hl e1 e2 hH hL H
    · have hmid : lo + 2 ^ h = (2 * c + 1) * 2 ^ h := by
        rw [Nat.add_mul, Nat.one_mul, ← hlo2]
      have hq : e / 2 ^ (h + 1) = c := Nat.div_eq_of_lt_le (by omega) (by rw [Nat.add_mul, Nat.one_mul]; omega)
      rw [ml_cl_hi hh, ml_M_hi hh, hq] at H
      obtain ⟨fu, hw⟩ := H
      by_cases he : lo + 2 ^ h ≤ e
      · rw [ml_P_r hh he] at hH hL hw
        obtain ⟨j1, j2⟩ := ml_cl_in h (len - 2 ^ h) (by omega)
        have hj0 := Nat.two_pow_pos (ml_cl h (len - 2 ^ h))
        have hjh : 2 ^ h = 2 ^ (h - ml_cl h (len - 2 ^ h)) * 2 ^ ml_cl h (len - 2 ^ h) := by
          rw [← Nat.pow_add, Nat.sub_add_cancel j1]
        refine ih (by omega) (lo + 2 ^ h) (len - 2 ^ h) (2 * c + 1) hmid (by omega) (by omega) (by omega) (by omega) he (by omega) hH.2 (by rw [List.length_cons] at hL; omega) ⟨fu + 1, ?_⟩
        have hm2 : lo + 2 ^ h = ((2 * c + 1) * 2 ^ (h - ml_cl h (len - 2 ^ h))) * 2 ^ ml_cl h (len - 2 ^ h) := by
          rw [Nat.mul_assoc, ← hjh]
          exact hmid
        have hx : e / 2 ^ ml_cl h (len - 2 ^ h) = (2 * c + 1) * 2 ^ (h - ml_cl h (len - 2 ^ h)) := Nat.div_eq_of_lt_le (by omega) (by rw [Nat.add_mul, Nat.one_mul]; omega)
        have hxe : e / 2 ^ ml_cl h (len - 2 ^ h) ≤ (S - 1) / 2 ^ ml_cl h (len - 2 ^ h) := Nat.div_le_div_right (by omega)
        have hx0 : 0 < (2 * c + 1) * 2 ^ (h - ml_cl h (len - 2 ^ h)) := Nat.mul_pos (by omega) (Nat.two_pow_pos _)
        have hyS := Nat.div_le_self (S - 1) (2 ^ ml_cl h (len - 2 ^ h))
        rw [hx] at hxe ⊢
        refine ml_39r hc (by rw [List.length_cons] at hL; omega) (by omega) (by omega) (by omega) (by omega) ?_ ?_
        · by_cases hfull : len - 2 ^ h = 2 ^ h
          · left
            rw [hfull, ml_cl_full]
            exact Nat.sub_self h
          · right
            exact (Nat.div_eq_of_lt_le (by omega) (by rw [Nat.add_mul, Nat.one_mul]; omega)).symm
        · rw [Nat.div_div_eq_div_mul, ← Nat.pow_add, show ml_cl h (len - 2 ^ h) + (h - ml_cl h (len - 2 ^ h) + 1) = h + 1 by omega, hH.1, ml_M6 (by omega) (Nat.le_refl _)]
          exact hw
      · rw [ml_P_l hh he] at hH hL hw
        refine ih (by omega) lo (2 ^ h) (2 * c) hlo2 (by omega) (Nat.le_refl _) (Or.inl rfl) (by omega) e1 (by omega) hH.2 (by rw [List.length_cons] at hL; omega) ⟨fu + 1, ?_⟩
        rw [ml_cl_full]
        have hx : e / 2 ^ h = 2 * c := Nat.div_eq_of_lt_le (by omega) (by omega)
        have hy : 2 * c + 1 ≤ (S - 1) / 2 ^ h := (Nat.le_div_iff_mul_le hp0).mpr (by omega)
        have hyS := Nat.div_le_self (S - 1) (2 ^ h)
        refine ml_39l hc (by rw [List.length_cons] at hL; omega) (by omega) (by omega) (by omega) (by omega) (by omega) ?_
        rw [Nat.div_div_eq_div_mul, Nat.div_div_eq_div_mul, ← Nat.pow_succ, hq, hH.1, ml_M6 (h := h) (len := len - 2 ^ h) (by omega) (by omega)]
        exact hw
/-- the way leads to the root -/
theorem ml_rootFromw (hS : S ≤ 40) (he : e < S) (hcnt : cnt = (ml_P v e 6 0 S).length) (hH : ml_H a2 (ml_P v e 6 0 S)) (H : post (ml_M v 6 0 S)) : wpX_rootFrom post (f0, nI cnt, f2, a1, a2, a3) (nI e) (nI S) (v e) := by
  have hlen := ml_P_len v e 6 0 S
  refine pk_lt S 1 (fun z => absurd z (by omega)) (fun _ => pk_lt 40 S (fun z => absurd z (by omega)) (fun _ => pk_lt e 0 (fun z => absurd z (by omega)) (fun _ => pk_lt e S (fun _ => nm_r (e' := nI (S - 1)) (pk_sub (by omega)) (ml_leafw ?_)) (fun z => absurd z (by omega)))))
  refine ml_rf (v := v) hS (by omega) 6 (by omega) 0 S 0 (by omega) (by omega) (by omega) (Or.inr (Nat.zero_add S)) (by omega) (by omega) (by omega) hH (by omega) ⟨1, ?_⟩
  obtain ⟨j1, j2⟩ := ml_cl_in 6 S (by omega)
  rw [Nat.div_eq_of_lt (a := S - 1) (by omega)]
  exact pk_le cnt (ml_P v e 6 0 S).length (fun _ => pk_eq 0 0 (fun _ => H) (fun z => absurd rfl z)) (fun z => absurd z (by omega))
end
end
section
theorem ml_handw {post : Int32 → Prop} {a1 a2 a3 : Nat → Int32} {f0 f2 : Int32} {cnt p : Nat} (hc : cnt ≤ 16) (hp : p < cnt) (H : post (a2 p)) : wpX_hand post (f0, nI cnt, f2, a1, a2, a3) (nI p) := by
  refine pk_lt p 0 (fun z => absurd z (by omega)) (fun _ => pk_lt p cnt (fun _ => ⟨pk_in p 16 (by omega), ?_⟩) (fun z => absurd z (by omega)))
  rw [nI_clamp (by omega)]
  exact H
theorem ml_alterw {post : Int32 → St1 → Prop} {a1 a2 a3 : Nat → Int32} {f0 f2 x : Int32} {cnt p : Nat} (hc : cnt ≤ 16) (hp : p < cnt) (H : post 0 (f0, nI cnt, f2, a1, upd a2 p x, a3)) : wpX_alter post (f0, nI cnt, f2, a1, a2, a3) (nI p) x := by
  refine pk_lt p 0 (fun z => absurd z (by omega)) (fun _ => pk_lt p cnt (fun _ => ⟨pk_in p 16 (by omega), nm_r (e' := upd a2 p x) ?_ H⟩) (fun z => absurd z (by omega)))
  rw [nI_clamp (by omega)]
theorem ml_back (a : Nat → Int32) (p : Nat) (x : Int32) : upd (upd a p x) p (a p) = a := by
  funext j
  by_cases e : j = p
  · rw [e, pk_us]
  · rw [pk_un e, pk_un e]
theorem ml_leadsw {post : Int32 → St1 → Prop} {v a1 a2 a3 : Nat → Int32} {f1 f2 : Int32} {n e S pl : Nat} (hn : n ≤ 40) (hK : ml_K v n a1) (hS : S ≤ n) (he : e < S) (hpl : pl < 2 ^ 31)
    (H : ∀ g1 g2 b c, post 1 (nI n, g1, g2, a1, b, c)) : wpL_leads post (nI n, f1, f2, a1, a2, a3) (nI e) (nI S) (v e) (nI pl) := by
  unfold wpL_leads
  dsimp only
  refine ml_pathw hn hK hS he (fun m b c hm hH => ?_)
  have hlen := ml_P_len v e 6 0 S
  have hroot : ml_root v S = ml_M v 6 0 S := if_neg (by omega)
  refine pk_lt m 0 (fun z => absurd z (by omega)) (fun _ => pk_lt 6 m (fun z => absurd z (by omega)) (fun _ => ?_))
  unfold wpX_held
  dsimp only
  refine br_t rfl (ml_rootFromw (by omega) he hm hH (ml_rootw hn hK hS (br_t hroot.symm ?_)))
  refine pk_eq m 0 (fun _ => H _ _ _ _) (fun hm0 => ⟨nI_ne0 (by omega) (by omega), nm_r (pk_rem hpl (by omega) (by omega)) ?_⟩)
  have hp : pl % m < m := Nat.mod_lt _ (by omega)
  refine ml_handw (by omega) hp (ml_alterw (by omega) hp (br_t rfl (ml_handw (by omega) hp (br_t pk_us (ml_alterw (by omega) hp ?_)))))
  rw [ml_back]
  exact br_t rfl (ml_rootFromw (by omega) he hm hH (ml_rootw hn hK hS (br_t hroot.symm (H _ _ _ _))))
end
section
section
variable {post : Int32 → Prop} {L i n w kc ks : Nat} {xs : Nat → Int32} {J : Int32 → Int32 → Int32 → Int32 → Int32 → Int32 → (Nat → Int32) → (Nat → Int32) → (Nat → Int32) → Prop} {x4 x5 x8 f1 f2 : Int32} {a1 a2 a3 : Nat → Int32}
theorem ml_154 (hL : L ≤ 260) (hi : i < L) (hn : n ≤ 40) (hn0 : 0 < n) (hni : n ≤ L) (hK : ml_K xs n a1) (hJ : ∀ g1 g2 b c, J (nI n) x5 (nI (i + 1)) (nI n) g1 g2 a1 b c) :
    wL_law_154 post L xs J (nI n) x4 x5 (nI i) kc ks (nI n) f1 f2 a1 a2 a3 := by
  unfold wL_law_154
  rw [nI_clamp (show i < 2 ^ 31 by omega)]
  obtain ⟨q, hq, eq⟩ := pk_andE (xs i) (m := 255) 8 (by decide)
  obtain ⟨q2, hq2, eq2⟩ := pk_andE (xs i >>> ((8 : Int32) &&& 31)) (m := 255) 8 (by decide)
  obtain ⟨q3, hq3, eq3⟩ := pk_andE (xs i >>> ((16 : Int32) &&& 31)) (m := 7) 3 (by decide)
  rw [eq, eq2, eq3]
  have h1 : q % n < n := Nat.mod_lt _ hn0
  have h2 : q2 % (1 + q % n) < 1 + q % n := Nat.mod_lt _ (by omega)
  refine ⟨pk_in i L hi, nI_ne0 hn0 (by omega), nm_r (e' := nI (1 + q % n)) (by rw [pk_rem (by omega) hn0 (by omega)]; exact nI_add 1 _) ⟨pk_in i L hi, nI_ne0 (by omega) (by omega), nm_r (pk_rem (by omega) (by omega) (by omega)) ⟨pk_in _ L (Nat.lt_of_lt_of_le h2 (by omega)), pk_in i L hi, ?_⟩⟩⟩
  rw [nI_clamp (show q2 % (1 + q % n) < 2 ^ 31 by omega)]
  exact ml_leadsw hn hK (by omega) h2 (by omega) (fun g1 g2 b c => br_f (by decide) (nm_r (nI_1 i) (hJ g1 g2 b c)))
theorem ml_141 (hL : L ≤ 260) (hi : i < L) (hn : n ≤ 40) (hn0 : 0 < n) (hni : n ≤ L) (hK : ml_K xs n a1) (hJ : ∀ g1 g2 b c, J (nI n) x5 (nI (i + 1)) (nI n) g1 g2 a1 b c) :
    wL_law_141 post L xs J (nI n) x4 x5 (nI i) kc ks (nI n) f1 f2 a1 a2 a3 := by
  have K := ml_154 (post := post) (x4 := x4) (kc := kc) (ks := ks) (f1 := f1) (f2 := f2) (a2 := a2) (a3 := a3) hL hi hn hn0 hni hK hJ
  exact br_c (fun _ => K) (fun _ => br_c (fun _ => K) (fun _ => nm_r (nI_1 i) (hJ _ _ _ _)))
theorem ml_122 (hL : L ≤ 260) (hi : i < L) (hn : n ≤ 40) (hn0 : 0 < n) (hni : n ≤ L) (hw : w ≤ 40) (hK : ml_K xs n a1) (h5 : w ≤ n → x5 = ml_root xs w) (hJ : ∀ g1 g2 b c, J (nI n) x5 (nI (i + 1)) (nI n) g1 g2 a1 b c) :
    wL_law_122 post L xs J (nI n) (nI w) x5 (nI i) kc ks (nI n) f1 f2 a1 a2 a3 := by
  have K := ml_141 (post := post) (x4 := nI w) (kc := kc) (ks := ks) (f1 := f1) (f2 := f2) (a2 := a2) (a3 := a3) hL hi hn hn0 hni hK hJ
  exact pk_lt n w (fun _ => K) (fun z => ml_rootw hn hK z (br_t (h5 z).symm K))
theorem ml_102 (hL : L ≤ 260) (hi : i < L) (hn : n ≤ 40) (hn0 : 0 < n) (hni : n ≤ L) (hw : w ≤ 40) (hK : ml_K xs n a1) (h5 : (x8 ≤ 0 ∧ (w ≤ n → x5 = ml_root xs w)) ∨ (¬ x8 ≤ 0 ∧ (w < n → x5 = ml_root xs w)))
    (hJ : ∀ y g1 g2 b c, (w ≤ n → y = ml_root xs w) → J (nI n) y (nI (i + 1)) (nI n) g1 g2 a1 b c) :
    wL_law_102 post L xs J (nI w) x5 (nI i) x8 (nI n) kc ks (nI n) f1 f2 a1 a2 a3 := by
  refine pk_eq n w (fun z => br_c (fun g => ?_) (fun g => ?_)) (fun z => ?_)
  · rcases h5 with h | h
    · exact ml_122 hL hi hn hn0 hni hw hK h.2 (fun _ _ _ _ => hJ _ _ _ _ _ h.2)
    · exact absurd g h.1
  · exact ml_rootw hn hK (by omega) (ml_122 hL hi hn hn0 hni hw hK (fun _ => rfl) (fun _ _ _ _ => hJ _ _ _ _ _ (fun _ => rfl)))
  · have h6 : w ≤ n → x5 = ml_root xs w := by
      rcases h5 with h | h
      · exact h.2
      · exact fun g => h.2 (by omega)
    exact ml_122 hL hi hn hn0 hni hw hK h6 (fun _ _ _ _ => hJ _ _ _ _ _ h6)
/-- a turn of the law -/
theorem ml_turn (hL : L ≤ 260) (hi : i < L) (hn : n = min i 40) (hw : w ≤ 40) (hK : ml_K xs n a1) (h5 : w ≤ n → x5 = ml_root xs w) (fu : Nat)
    (hJ : ∀ m y g1 g2 a b c, m = min (i + 1) 40 → ml_K xs m a → (w ≤ m → y = ml_root xs w) → wL_law_34 post L xs (nI w) kc ks fu (nI m) y (nI (i + 1)) (nI m) g1 g2 a b c) :
    wL_law_34 post L xs (nI w) kc ks (fu + 1) (nI n) x5 (nI i) (nI n) f1 f2 a1 a2 a3 := by
  refine pk_le L i (fun z => absurd z (by omega)) (fun _ => ml_rootw (by omega) hK (Nat.le_refl n) ⟨pk_in i L hi, ?_⟩)
  rw [nI_clamp (show i < 2 ^ 31 by omega)]
  by_cases h40 : n = 40
  · subst h40
    refine ml_append40 (br_t rfl (br_t rfl (ml_rootw (by omega) hK (Nat.le_refl 40) (br_t rfl (br_t rfl ?_)))))
    exact ml_102 (n := 40) hL hi (by omega) (by omega) (by omega) hw hK (Or.inl ⟨by decide, h5⟩) (fun y g1 g2 b c hy => hJ 40 y g1 g2 a1 b c (by omega) hK hy)
  · have hni : n = i := by omega
    subst hni
    refine ml_appendw (by omega) hK (fun a hK' => pk_eq n 40 (fun z => absurd z h40) (fun _ => br_t (nI_1 n).symm (ml_rootw (by omega) hK' (by omega) (br_t rfl (pk_eq n 40 (fun z => absurd z h40) (fun _ => ?_))))))
    rw [nI_1]
    exact ml_102 hL hi (by omega) (by omega) (by omega) hw hK' (Or.inr ⟨nI_nle (by omega) (by omega), fun z => h5 (by omega)⟩) (fun y g1 g2 b c hy => hJ (n + 1) y g1 g2 a b c (by omega) hK' hy)
/-- the law's last word -/
theorem ml_last (hp : post 1) (hL : L ≤ 260) (hn : n = min L 40) (hK : ml_K xs n a1) (fu : Nat) : wL_law_34 post L xs x4 kc ks (fu + 1) (nI n) x5 (nI L) (nI n) f1 f2 a1 a2 a3 := by
  refine pk_le L L (fun _ => pk_eq n 0 (fun _ => hp) (fun z => ?_)) (fun z => absurd z (by omega))
  have e : nI n - 1 = nI (n - 1) := pk_sub (b := 1) (by omega)
  rw [e]
  refine ⟨pk_in (n - 1) L (by omega), ?_⟩
  rw [nI_clamp (show n - 1 < 2 ^ 31 by omega)]
  exact ml_leadsw (pl := 0) (by omega) hK (Nat.le_refl n) (by omega) (by omega) (fun g1 g2 b c => br_f (by decide) hp)
end
theorem ml_K0 (v a : Nat → Int32) : ml_K v 0 a := by
  intro l i _ h
  have := Nat.mul_pos (Nat.succ_pos i) (Nat.two_pow_pos l)
  exact absurd h (Nat.not_le_of_lt this)
theorem ml_loop {post : Int32 → Prop} {L w kc ks : Nat} {xs : Nat → Int32} (hp : post 1) (hL : L ≤ 260) (hw0 : 0 < w) (hw : w ≤ 40) (f1 f2 : Int32) (a1 a2 a3 : Nat → Int32) : ∃ fu, wL_law_34 post L xs (nI w) kc ks fu 0 0 0 0 f1 f2 a1 a2 a3 := by
  refine pk_loop (σ := Int32 × Int32 × Int32 × (Nat → Int32) × (Nat → Int32) × (Nat → Int32)) (fun n i s => wL_law_34 post L xs (nI w) kc ks n (nI (min i 40)) s.1 (nI i) (nI (min i 40)) s.2.1 s.2.2.1 s.2.2.2.1 s.2.2.2.2.1 s.2.2.2.2.2)
    (fun i s => ml_K xs (min i 40) s.2.2.2.1 ∧ (w ≤ min i 40 → s.1 = ml_root xs w)) L 0 (0, f1, f2, a1, a2, a3) (by omega) ⟨ml_K0 xs a1, fun z => absurd z (by omega)⟩ ?_ ?_
  · intro fu s hI
    exact ml_last hp hL rfl hI.1 fu
  · intro fu i s hi hI hs
    refine ml_turn hL hi rfl hw hI.1 hI.2 fu (fun m y g1 g2 a b c hm hK hy => ?_)
    subst hm
    exact hs (y, g1, g2, a, b, c) ⟨hK, hy⟩
theorem i_vc (xs : Nat → Int32) (L : Nat) (hL : L ≤ 260) : wpL_law (fun r => r = 1) L xs := by
  have key : ∀ r : Int32, ∃ w, 0 < w ∧ w ≤ 40 ∧ 1 + ((r &&& 255) - (r &&& 255) / 40 * 40) = nI w := by
    intro r
    obtain ⟨q, hq, eq⟩ := pk_andE r (m := 255) 8 (by decide)
    have h := Nat.mod_lt q (show 0 < 40 by decide)
    refine ⟨1 + q % 40, by omega, by omega, ?_⟩
    rw [eq, ← nI_add 1 (q % 40), ← pk_rem (a := q) (d := 40) (by omega) (by omega) (by omega)]
    rfl
  have body : ∀ r : Int32, ¬ (40 : Int32) = 0 ∧ (∀ x4_21 : Int32, x4_21 = 1 + ((r &&& 255) - (r &&& 255) / 40 * 40) → (∃ fu34 : Nat, wL_law_34 (fun r => r = 1) L xs x4_21 (1 + 3) (6 + 112) fu34 0 0 0 0 0 0 (fun _ => 0) (fun _ => 0) (fun _ => 0))) := by
    intro r
    obtain ⟨w, h0, h1, e⟩ := key r
    exact ⟨by decide, nm_r e (ml_loop (post := fun r => r = 1) rfl hL h0 h1 0 0 _ _ _)⟩
  refine ⟨3, 112, by omega, by omega, by omega, by omega, by omega, by omega, by omega, by omega, ?_⟩
  exact pk_le L 0 (fun _ => body 0) (fun z => ⟨pk_in 0 L z, body _⟩)
end
