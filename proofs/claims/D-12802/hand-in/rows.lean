section
/-! ===== plain rows: updates, lists, items, counts, bits ===== -/
def la_u {α : Type} (f : Nat → α) (k : Nat) (v : α) : Nat → α := fun j => if j = k then v else f j
theorem la_us {α : Type} {f : Nat → α} {k : Nat} {v : α} : la_u f k v k = v := if_pos rfl
theorem la_un {α : Type} {f : Nat → α} {k j : Nat} {v : α} (h : j ≠ k) : la_u f k v j = f j := if_neg h
/-- place i of a row of items -/
def la_g (b : List Nat) (i : Nat) : Nat := b.getD i 0
theorem la_ge {b : List Nat} {i : Nat} (h : i < b.length) : la_g b i = b[i] := by
  unfold la_g
  rw [List.getD_eq_getElem?_getD, List.getElem?_eq_getElem h]
  rfl
theorem la_gm {b : List Nat} {i : Nat} (h : i < b.length) : la_g b i ∈ b := by
  rw [la_ge h]
  exact List.getElem_mem h
theorem la_mg {b : List Nat} {x : Nat} (h : x ∈ b) : ∃ i, i < b.length ∧ la_g b i = x := by
  obtain ⟨i, hi, e⟩ := List.mem_iff_getElem.mp h
  exact ⟨i, hi, by rw [la_ge hi, e]⟩
theorem la_gmap {b : List Nat} {f : Nat → Nat} {i : Nat} (h : i < b.length) : la_g (b.map f) i = f (la_g b i) := by
  rw [la_ge (by rw [List.length_map]; exact h), la_ge h, List.getElem_map]
theorem la_tk {b : List Nat} {i : Nat} (h : i < b.length) : b.take (i + 1) = b.take i ++ [la_g b i] := by
  rw [la_ge h, List.take_append_getElem h]
theorem la_ex {b c : List Nat} (hl : b.length = c.length) (h : ∀ i, i < b.length → la_g b i = la_g c i) : b = c := by
  apply List.ext_getElem hl
  intro i h1 h2
  rw [← la_ge h1, ← la_ge h2]
  exact h i h1
theorem la_gl {b : List Nat} {x i : Nat} (h : i < b.length) : la_g (b ++ [x]) i = la_g b i := by
  rw [la_ge (by rw [List.length_append]; omega), la_ge h, List.getElem_append_left h]
theorem la_gr {b : List Nat} {x : Nat} : la_g (b ++ [x]) b.length = x := by
  simp [la_g]
theorem la_mt {b : List Nat} {i x : Nat} (h : i < b.length) : x ∈ b.take (i + 1) ↔ x ∈ b.take i ∨ x = la_g b i := by
  rw [la_tk h, List.mem_append, List.mem_singleton]
/-- an item: a word or a number -/
def la_it (x : Nat) : Prop := x < 24 ∨ (1000 ≤ x ∧ x < 2000)
/-- an item as its shape holds it -/
def la_bl (x : Nat) : Nat := if 1000 ≤ x then 1000 else x
theorem la_bl_n {x : Nat} (h : 1000 ≤ x) : la_bl x = 1000 := if_pos h
theorem la_bl_w {x : Nat} (h : x < 1000) : la_bl x = x := if_neg (by omega)
theorem la_bl_1 {x : Nat} (h : la_it x) : la_bl x = 1000 ↔ 1000 ≤ x := by
  unfold la_it at h
  unfold la_bl
  split <;> omega
theorem la_bl_lt {x : Nat} (h : la_it x) : la_bl x < 2000 := by
  unfold la_it at h
  unfold la_bl
  split <;> omega
theorem la_it_lt {x : Nat} (h : la_it x) : x < 2000 := by
  unfold la_it at h
  omega
/-- how many l below n -/
def la_cn (P : Nat → Bool) : Nat → Nat
  | 0 => 0
  | n + 1 => la_cn P n + (if P n = true then 1 else 0)
theorem la_cn_s (P : Nat → Bool) (n : Nat) : la_cn P (n + 1) = la_cn P n + (if P n = true then 1 else 0) := rfl
theorem la_cn_t {P : Nat → Bool} {n : Nat} (h : P n = true) : la_cn P (n + 1) = la_cn P n + 1 := by rw [la_cn_s, if_pos h]
theorem la_cn_f {P : Nat → Bool} {n : Nat} (h : P n = false) : la_cn P (n + 1) = la_cn P n := by
  rw [la_cn_s, if_neg (by rw [h]; decide)]
  rfl
theorem la_cn_le (P : Nat → Bool) (n : Nat) : la_cn P n ≤ n := by
  induction n with
  | zero => exact Nat.le_refl 0
  | succ n ih =>
    rw [la_cn_s]
    split <;> omega
theorem la_cn_co {P R : Nat → Bool} {n : Nat} (h : ∀ l, l < n → P l = R l) : la_cn P n = la_cn R n := by
  induction n with
  | zero => rfl
  | succ n ih => rw [la_cn_s, la_cn_s, ih (fun l hl => h l (by omega)), h n (by omega)]
theorem la_cn_iv {P : Nat → Bool} {b e : Nat} (n : Nat) (h : ∀ m, m < n → P m = decide (b ≤ m ∧ m < e)) : la_cn P n = min e n - b := by
  induction n with
  | zero =>
    show 0 = min e 0 - b
    omega
  | succ n ih =>
    rw [la_cn_s, ih (fun m hm => h m (by omega)), h n (by omega)]
    by_cases c : b ≤ n ∧ n < e
    · rw [if_pos (decide_eq_true c)]
      omega
    · rw [if_neg (fun z => c (of_decide_eq_true z))]
      omega
theorem la_cn_0 {P : Nat → Bool} {n : Nat} (h : ∀ m, m < n → P m = false) : la_cn P n = 0 := by
  induction n with
  | zero => rfl
  | succ n ih => rw [la_cn_f (h n (by omega)), ih (fun m hm => h m (by omega))]
/-- beyond n nothing is counted -/
theorem la_cn_up {P : Nat → Bool} {n : Nat} (k : Nat) (h : ∀ m, n ≤ m → m < n + k → P m = false) : la_cn P (n + k) = la_cn P n := by
  induction k with
  | zero => rfl
  | succ k ih => rw [← Nat.add_assoc, la_cn_f (h (n + k) (by omega) (by omega)), ih (fun m h1 h2 => h m h1 (by omega))]
/-- by shapes, then by lines: the lines -/
def la_sum (f : Nat → Nat) : Nat → Nat
  | 0 => 0
  | m + 1 => la_sum f m + f m
theorem la_sum_add (f g : Nat → Nat) (m : Nat) : la_sum (fun s => f s + g s) m = la_sum f m + la_sum g m := by
  induction m with
  | zero => rfl
  | succ m ih =>
    show la_sum (fun s => f s + g s) m + (f m + g m) = (la_sum f m + f m) + (la_sum g m + g m)
    rw [ih]
    omega
theorem la_sum_0 {f : Nat → Nat} {m : Nat} (h : ∀ s, s < m → f s = 0) : la_sum f m = 0 := by
  induction m with
  | zero => rfl
  | succ m ih =>
    show la_sum f m + f m = 0
    rw [ih (fun s hs => h s (by omega)), h m (by omega)]
theorem la_sum_1 {m a v : Nat} (h : a < m) : la_sum (fun s => if s = a then v else 0) m = v := by
  induction m with
  | zero => exact absurd h (by omega)
  | succ m ih =>
    show la_sum (fun s => if s = a then v else 0) m + (if m = a then v else 0) = v
    by_cases e : m = a
    · rw [if_pos e, la_sum_0 (fun s hs => if_neg (by omega))]
      omega
    · rw [if_neg e, ih (by omega)]
      omega
theorem la_sum_co {f g : Nat → Nat} {m : Nat} (h : ∀ s, s < m → f s = g s) : la_sum f m = la_sum g m := by
  induction m with
  | zero => rfl
  | succ m ih =>
    show la_sum f m + f m = la_sum g m + g m
    rw [ih (fun s hs => h s (by omega)), h m (by omega)]
theorem la_sum_cn {S : Nat → Nat} {P : Nat → Bool} {m n : Nat} (h : ∀ l, l < n → S l < m) : la_sum (fun s => la_cn (fun l => decide (S l = s) && P l) n) m = la_cn P n := by
  induction n with
  | zero => exact la_sum_0 (fun s _ => rfl)
  | succ n ih =>
    have e : la_sum (fun s => la_cn (fun l => decide (S l = s) && P l) (n + 1)) m = la_sum (fun s => la_cn (fun l => decide (S l = s) && P l) n + (if s = S n then (if P n = true then 1 else 0) else 0)) m := by
      apply la_sum_co
      intro s _
      rw [la_cn_s]
      by_cases c : s = S n
      · rw [if_pos c, c]
        simp
      · rw [if_neg c]
        have c' : ¬ S n = s := fun z => c z.symm
        simp [c']
    rw [e, la_sum_add, ih (fun l hl => h l (by omega)), la_sum_1 (h n (by omega)), la_cn_s]
theorem la_sum_le {f : Nat → Nat} {c m : Nat} (h : ∀ s, s < m → f s ≤ c) : la_sum f m ≤ c * m := by
  induction m with
  | zero => exact Nat.zero_le _
  | succ m ih =>
    show la_sum f m + f m ≤ c * (m + 1)
    have h1 := ih (fun s hs => h s (by omega))
    have h2 := h m (by omega)
    rw [Nat.mul_succ]
    omega
/-! ===== bits of an Int64 ===== -/
def la_bt (x : Int64) (l : Nat) : Bool := x.toBitVec.getLsbD l
theorem la_sc : ∀ k, k < 64 → ((((nI k).toInt64 &&& 63).toBitVec).smod 64).toNat = k := by decide +kernel
theorem la_tp : ∀ k, k < 64 → ((1 : Int64) <<< ((nI k).toInt64 &&& 63)).toBitVec = BitVec.twoPow 64 k := by decide +kernel
theorem la_bt_0 (l : Nat) : la_bt 0 l = false := BitVec.getLsbD_zero
theorem la_bt_or (x : Int64) {k l : Nat} (hk : k < 64) : la_bt (x ||| ((1 : Int64) <<< ((nI k).toInt64 &&& 63))) l = (la_bt x l || decide (l = k)) := by
  unfold la_bt
  rw [Int64.toBitVec_or, la_tp k hk, BitVec.getLsbD_or, BitVec.getLsbD_twoPow, decide_eq_true hk, Bool.true_and]
  by_cases e : l = k
  · rw [decide_eq_true e, decide_eq_true e.symm]
  · rw [decide_eq_false e, decide_eq_false (fun z => e z.symm)]
theorem la_shr (x : Int64) {k : Nat} (hk : k < 64) : (x >>> ((nI k).toInt64 &&& 63)).toBitVec = x.toBitVec.sshiftRight k := by
  rw [Int64.toBitVec_shiftRight]
  show x.toBitVec.sshiftRight (((nI k).toInt64 &&& 63).toBitVec.smod 64).toNat = _
  rw [la_sc k hk]
theorem la_shr0 (x : Int64) {k : Nat} (hk : k < 64) : (x.toBitVec.sshiftRight k).getLsbD 0 = la_bt x k := by
  unfold la_bt
  rw [BitVec.getLsbD_sshiftRight]
  simp [hk]
theorem la_low (x : Int64) {k : Nat} (hk : k < 64) : ((x >>> ((nI k).toInt64 &&& 63)) &&& 1) = 0 ↔ la_bt x k = false := by
  rw [← Int64.toBitVec_inj, Int64.toBitVec_and, la_shr x hk]
  show (x.toBitVec.sshiftRight k &&& 1#64) = 0#64 ↔ _
  rw [BitVec.and_one_eq_setWidth_ofBool_getLsbD, la_shr0 x hk]
  cases la_bt x k
  · exact ⟨fun _ => rfl, fun _ => by decide⟩
  · exact ⟨fun z => absurd z (by decide), fun z => absurd z (by decide)⟩
theorem la_one (x : Int64) {k : Nat} (hk : k < 64) : ((x >>> ((nI k).toInt64 &&& 63)).toInt32 &&& 1) = nI (if la_bt x k = true then 1 else 0) := by
  rw [← Int32.toBitVec_inj, Int32.toBitVec_and, Int64.toBitVec_toInt32, la_shr x hk]
  show ((x.toBitVec.sshiftRight k).signExtend 32 &&& 1#32) = _
  rw [BitVec.and_one_eq_setWidth_ofBool_getLsbD, BitVec.getLsbD_signExtend, if_pos (by decide), la_shr0 x hk]
  cases la_bt x k
  · decide
  · decide
/-! ===== Int32 rows ===== -/
theorem la_8 (s i : Nat) : 8 * nI s + nI i = nI (8 * s + i) := by
  rw [← nI_add, ← pk_mul]
  rfl
theorem la_i1 {a b : Nat} (ha : a < 2 ^ 31) (hb : b < 2 ^ 31) (h : nI a = nI b) : a = b := (nI_eq ha hb).mp h
theorem la_m1 {c : Nat} (h : c < 2 ^ 31) : ¬ nI c = -1 := by
  intro e
  have t := congrArg Int32.toInt e
  rw [nI_toInt h] at t
  have t2 : (-1 : Int32).toInt = -1 := by decide
  omega
end
section
/-! ===== numbers in bytes ===== -/
def la_dv (c : Nat) : Int32 := if c % 2 = 0 then nI (c / 2) else -(nI ((c + 1) / 2))
def la_D (a6 : Nat → Int32) (p q : Nat) (d : Int32) : Prop :=
  ∃ c, c < 2048 ∧ la_dv c = d ∧ ((c < 128 ∧ q = p + 1 ∧ a6 p = (nI c).toInt8.toInt32) ∨ (128 ≤ c ∧ q = p + 2 ∧ a6 p = ((nI c &&& 127) ||| 128).toInt8.toInt32 ∧ a6 (p + 1) = (nI c >>> ((7 : Int32) &&& 31)).toInt8.toInt32))
theorem la_D_k {a6 a6' : Nat → Int32} {p q : Nat} {d : Int32} (h : la_D a6 p q d) (hk : ∀ j, j < q → a6' j = a6 j) : la_D a6' p q d := by
  obtain ⟨c, hc, hd, h⟩ := h
  refine ⟨c, hc, hd, ?_⟩
  rcases h with ⟨h1, h2, h3⟩ | ⟨h1, h2, h3, h4⟩
  · exact Or.inl ⟨h1, h2, by rw [hk p (by omega), h3]⟩
  · exact Or.inr ⟨h1, h2, by rw [hk p (by omega), h3], by rw [hk (p + 1) (by omega), h4]⟩
theorem la_D_lt {a6 : Nat → Int32} {p q : Nat} {d : Int32} (h : la_D a6 p q d) : p < q := by
  obtain ⟨c, hc, hd, h⟩ := h
  rcases h with ⟨h1, h2, h3⟩ | ⟨h1, h2, h3, h4⟩ <;> omega
theorem la_k1 : ∀ c, c < 128 → ((nI c).toInt8.toInt32 &&& 255) = nI c := by decide +kernel
theorem la_k2 {c : Nat} (hc : c < 2048) : (((nI c &&& 127) ||| 128).toInt8.toInt32 &&& 255) = nI (c % 128 + 128) :=
  co_dec (N := 2048) (P := fun c => (((nI c &&& 127) ||| 128).toInt8.toInt32 &&& 255) = nI (c % 128 + 128)) (by decide +kernel) hc
theorem la_k3 {c : Nat} (hc : c < 2048) : ((nI (c % 128 + 128) &&& 127) ||| (((nI c >>> ((7 : Int32) &&& 31)).toInt8.toInt32 &&& 255) <<< ((7 : Int32) &&& 31))) = nI c :=
  co_dec (N := 2048) (P := fun c => ((nI (c % 128 + 128) &&& 127) ||| (((nI c >>> ((7 : Int32) &&& 31)).toInt8.toInt32 &&& 255) <<< ((7 : Int32) &&& 31))) = nI c) (by decide +kernel) hc
theorem la_neg {a b : Nat} (h : a ≤ b) : nI a - nI b = -(nI (b - a)) := by
  rw [← pk_sub h]
  grind
theorem la_co {a b : Nat} (ha : a < 1000) (hb : b < 1000) : ∃ c, c < 2048 ∧ la_dv c = nI a - nI b ∧ ((0 ≤ nI a - nI b ∧ 2 * (nI a - nI b) = nI c) ∨ (¬ 0 ≤ nI a - nI b ∧ (-2) * (nI a - nI b) - 1 = nI c)) := by
  have ht := pk_sub_toInt (a := a) (b := b) (by omega) (by omega)
  have h0 : (0 : Int32).toInt = 0 := by decide
  by_cases h : b ≤ a
  · refine ⟨2 * (a - b), by omega, ?_, Or.inl ⟨?_, ?_⟩⟩
    · unfold la_dv
      rw [if_pos (by omega), pk_sub h, show 2 * (a - b) / 2 = a - b by omega]
    · rw [Int32.le_iff_toInt_le, ht, h0]
      omega
    · rw [pk_sub h, ← pk_mul]
      rfl
  · refine ⟨2 * (b - a) - 1, by omega, ?_, Or.inr ⟨?_, ?_⟩⟩
    · unfold la_dv
      rw [if_neg (by omega), show (2 * (b - a) - 1 + 1) / 2 = b - a by omega, la_neg (by omega)]
    · rw [Int32.le_iff_toInt_le, ht, h0]
      omega
    · rw [la_neg (by omega)]
      have e : nI (2 * (b - a) - 1) = nI (2 * (b - a)) - 1 := by
        rw [← nI_pred, show 2 * (b - a) - 1 + 1 = 2 * (b - a) by omega]
      have e2 : nI (2 * (b - a)) = 2 * nI (b - a) := (pk_mul 2 (b - a)).symm
      rw [e, e2]
      grind
section
variable {dc pc ln sh nd ft fr : Int32} {fs : Int64} {a1 a2 a3 a4 a5 a6 a7 a8 a10 a12 a13 a14 a15 a16 a17 a18 a19 a20 : Nat → Int32} {a9 a11 : Nat → Int64}
theorem la_take {post : Int32 → St1 → Prop} {p q : Nat} {d : Int32} (h : la_D a6 p q d) (hq : q ≤ 960) (H : post d (dc, pc, ln, sh, nd, ft, fs, nI q, a1, a2, a3, a4, a5, a6, a7, a8, a9, a10, a11, a12, a13, a14, a15, a16, a17, a18, a19, a20)) : wpX_takeNumber post (dc, pc, ln, sh, nd, ft, fs, nI p, a1, a2, a3, a4, a5, a6, a7, a8, a9, a10, a11, a12, a13, a14, a15, a16, a17, a18, a19, a20) := by
  obtain ⟨c, hc, hd, h⟩ := h
  have fin : wX_takeNumber_63 post (nI c) dc pc ln sh nd ft fs (nI q) a1 a2 a3 a4 a5 a6 a7 a8 a9 a10 a11 a12 a13 a14 a15 a16 a17 a18 a19 a20 := by
    unfold wX_takeNumber_63
    have e1 : nI c &&& 1 = nI (c % 2) := pk_andN (by omega) 1 (by decide)
    by_cases e : c % 2 = 0
    · have e2 : nI c >>> ((1 : Int32) &&& 31) = nI (c / 2) := pk_shrN (by omega) _ 1 (by decide)
      refine br_t (by rw [e1, e]; exact nI_0) ?_
      rw [e2]
      rw [← hd, la_dv, if_pos e] at H
      exact H
    · have e2 : (nI c + 1) >>> ((1 : Int32) &&& 31) = nI ((c + 1) / 2) := by
        rw [nI_1]
        exact pk_shrN (by omega) _ 1 (by decide)
      refine br_f (by rw [e1]; exact nI_ne0 (by omega) (by omega)) ?_
      rw [e2]
      rw [← hd, la_dv, if_neg e] at H
      exact H
  rcases h with ⟨h1, h2, h3⟩ | ⟨h1, h2, h3, h4⟩
  · subst h2
    refine ⟨pk_in p 960 (by omega), nm_r (e' := nI c) (by rw [nI_clamp (by omega), h3]; exact la_k1 c h1) (nm_r (nI_1 p) (pk_lt c 128 (fun _ => fin) (fun z => absurd z (by omega))))⟩
  · subst h2
    refine ⟨pk_in p 960 (by omega), nm_r (e' := nI (c % 128 + 128)) (by rw [nI_clamp (by omega), h3]; exact la_k2 hc) (nm_r (nI_1 p) (pk_lt (c % 128 + 128) 128 (fun z => absurd z (by omega)) (fun _ => ⟨pk_in (p + 1) 960 (by omega), nm_r (e' := nI c) ?_ (nm_r (nI_1 (p + 1)) fin)⟩)))⟩
    rw [nI_clamp (by omega), h4]
    exact la_k3 hc
theorem la_bring {post : Int32 → St1 → Prop} {p a b : Nat} (ha : a < 1000) (hb : b < 1000) (hp : p + 2 ≤ 960)
    (H : ∀ q a6', p < q → q ≤ p + 2 → (∀ j, j < p → a6' j = a6 j) → la_D a6' p q (nI a - nI b) → post (nI q) (dc, pc, ln, sh, nd, ft, fs, fr, a1, a2, a3, a4, a5, a6', a7, a8, a9, a10, a11, a12, a13, a14, a15, a16, a17, a18, a19, a20)) : wpX_bringNumber post (dc, pc, ln, sh, nd, ft, fs, fr, a1, a2, a3, a4, a5, a6, a7, a8, a9, a10, a11, a12, a13, a14, a15, a16, a17, a18, a19, a20) (nI p) (nI a - nI b) := by
  obtain ⟨c, hc, hd, h⟩ := la_co ha hb
  have fin : wX_bringNumber_16 post (nI p) (nI c) dc pc ln sh nd ft fs fr a1 a2 a3 a4 a5 a6 a7 a8 a9 a10 a11 a12 a13 a14 a15 a16 a17 a18 a19 a20 := by
    unfold wX_bringNumber_16
    refine pk_le 128 c (fun z => ⟨pk_in p 960 (by omega), nm_e ⟨pk_in (p + 1) 960 (by omega) (nI_1 p), nm_e ?_⟩⟩) (fun z => ⟨pk_in p 960 (by omega), nm_e ?_⟩)
    · rw [show nI p + 2 = nI (p + 2) from nI_add p 2, nI_1 p, nI_clamp (n := p) (by omega), nI_clamp (n := p + 1) (by omega)]
      refine H (p + 2) _ (by omega) (by omega) (fun j hj => ?_) ⟨c, hc, hd, Or.inr ⟨z, rfl, ?_, pk_us⟩⟩
      · rw [pk_un (by omega), pk_un (by omega)]
      · rw [pk_un (by omega), pk_us]
    · rw [nI_1 p, nI_clamp (n := p) (by omega)]
      exact H (p + 1) _ (by omega) (by omega) (fun j hj => pk_un (by omega)) ⟨c, hc, hd, Or.inl ⟨z, rfl, pk_us⟩⟩
  unfold wpX_bringNumber
  rcases h with ⟨h1, h2⟩ | ⟨h1, h2⟩
  · refine br_t h1 ?_
    rw [h2]
    exact fin
  · refine br_f h1 ?_
    rw [h2]
    exact fin
end
end
section
/-! ===== the picture and what the state has to do with it ===== -/
/-- the number in column i of the last line of shape s ahead of line l (0: none) -/
def la_P (S : Nat → Nat) (B : Nat → List Nat) (s i : Nat) : Nat → Nat
  | 0 => 0
  | l + 1 => if S l = s then la_g (B l) i - 1000 else la_P S B s i l
theorem la_P_t {S : Nat → Nat} {B : Nat → List Nat} {s i l : Nat} (h : S l = s) : la_P S B s i (l + 1) = la_g (B l) i - 1000 := if_pos h
theorem la_P_f {S : Nat → Nat} {B : Nat → List Nat} {s i l : Nat} (h : ¬ S l = s) : la_P S B s i (l + 1) = la_P S B s i l := if_neg h
theorem la_g_lt {b : List Nat} (h : ∀ x, x ∈ b → la_it x) (i : Nat) : la_g b i < 2000 := by
  by_cases hi : i < b.length
  · exact la_it_lt (h _ (la_gm hi))
  · have e : la_g b i = 0 := by
      unfold la_g
      rw [List.getD_eq_getElem?_getD, List.getElem?_eq_none (by omega)]
      rfl
    omega
theorem la_P_lt {S : Nat → Nat} {B : Nat → List Nat} {s i : Nat} (l : Nat) (h : ∀ k, k < l → ∀ x, x ∈ B k → la_it x) : la_P S B s i l < 1000 := by
  induction l with
  | zero => show 0 < 1000; omega
  | succ l ih =>
    by_cases e : S l = s
    · rw [la_P_t e]
      have := la_g_lt (h l (by omega)) i
      omega
    · rw [la_P_f e]
      exact ih (fun k hk => h k (by omega))
theorem la_P_co {S S' : Nat → Nat} {B B' : Nat → List Nat} {s i : Nat} (l : Nat) (h : ∀ k, k < l → S' k = S k ∧ B' k = B k) : la_P S' B' s i l = la_P S B s i l := by
  induction l with
  | zero => rfl
  | succ l ih =>
    have h1 := h l (by omega)
    by_cases e : S l = s
    · rw [la_P_t e, la_P_t (h1.1.trans e), h1.2]
    · rw [la_P_f e, la_P_f (by rw [h1.1]; exact e), ih (fun k hk => h k (by omega))]
theorem la_P_no {S : Nat → Nat} {B : Nat → List Nat} {s i : Nat} (l : Nat) (h : ∀ k, k < l → ¬ S k = s) : la_P S B s i l = 0 := by
  induction l with
  | zero => rfl
  | succ l ih => rw [la_P_f (h l (by omega)), ih (fun k hk => h k (by omega))]
/-- times -/
def la_T (n : Nat) (T : Nat → Nat) (a3 : Nat → Int32) : Prop := (∀ l, l < n → a3 l = nI (T l) ∧ T l ≤ 1000) ∧ (∀ l k, l ≤ k → k < n → T l ≤ T k)
/-- shapes -/
def la_Q (m : Nat) (Q : Nat → List Nat) (a7 a8 : Nat → Int32) : Prop := ∀ s, s < m → a7 s = nI (Q s).length ∧ (Q s).length ≤ 8 ∧ ∀ i, i < (Q s).length → a8 (8 * s + i) = nI (la_g (Q s) i)
/-- lines -/
def la_L (n m : Nat) (S : Nat → Nat) (B Q : Nat → List Nat) (a4 : Nat → Int32) : Prop := ∀ l, l < n → a4 l = nI (S l) ∧ S l < m ∧ Q (S l) = (B l).map la_bl ∧ (∀ x, x ∈ B l → la_it x) ∧ 0 < (B l).length
/-- bytes: p l i is where column i of line l begins, e the end of all -/
def la_N (n : Nat) (S : Nat → Nat) (B : Nat → List Nat) (p : Nat → Nat → Nat) (e : Nat) (a5 a6 : Nat → Int32) : Prop :=
  (∀ l, l < n → a5 l = nI (p l 0)) ∧ a5 n = nI e ∧ e ≤ 16 * n ∧
  ∀ l, l < n → ∀ i, i < (B l).length → p l (i + 1) ≤ e ∧ (1000 ≤ la_g (B l) i → la_D a6 (p l i) (p l (i + 1)) (nI (la_g (B l) i - 1000) - nI (la_P S B (S l) i l))) ∧ (la_g (B l) i < 1000 → p l (i + 1) = p l i)
/-- numbers of the last line of each shape -/
def la_R (n m : Nat) (S : Nat → Nat) (B Q : Nat → List Nat) (a10 : Nat → Int32) : Prop := ∀ s, s < m → ∀ i, i < (Q s).length → la_g (Q s) i = 1000 → a10 (8 * s + i) = nI (la_P S B s i n)
/-- the lines of a shape, of a word -/
def la_Z (n m : Nat) (S : Nat → Nat) (a9 : Nat → Int64) : Prop := ∀ s, s < m → ∀ l, l < 64 → la_bt (a9 s) l = decide (l < n ∧ S l = s)
def la_W (n : Nat) (B : Nat → List Nat) (a11 : Nat → Int64) : Prop := ∀ w, w < 24 → ∀ l, l < 64 → la_bt (a11 w) l = decide (l < n ∧ w ∈ B l)
/-- a node as it is kept: -1 for none (node 0 is nobody's child) -/
def la_x (j : Nat) : Int32 := if j = 0 then -1 else nI j
theorem la_x_n {j : Nat} (h : 0 < j) : la_x j = nI j := if_neg (by omega)
/-- the tree: pa k the items on the way to node k, pp k those on the way to the node above it -/
def la_C (k0 : Nat) (pa pp : Nat → List Nat) (a12 a13 a14 : Nat → Int32) : Prop :=
  0 < k0 ∧ pa 0 = [] ∧ ∀ k, k < k0 → (∃ j, a13 k = la_x j ∧ j < k0 ∧ (0 < j → pp j = pa k)) ∧ (∃ j, a14 k = la_x j ∧ j ≤ k ∧ (0 < j → j < k ∧ pp j = pp k)) ∧ (0 < k → ∃ x, x < 2000 ∧ a12 k = nI x ∧ pa k = pp k ++ [x])
/-- shapes that end at nodes -/
def la_E (k0 m : Nat) (pa Q : Nat → List Nat) (a15 : Nat → Int32) : Prop := ∀ k, k < k0 → a15 k = -1 ∨ ∃ s, s < m ∧ a15 k = nI s ∧ Q s = pa k
/-- the draft -/
def la_F (D : List Nat) (a1 : Nat → Int32) : Prop := D.length ≤ 8 ∧ (∀ i, i < D.length → a1 i = nI (la_g D i)) ∧ ∀ x, x ∈ D → la_it x
/-- what reading needs -/
def la_O (n m : Nat) (T S : Nat → Nat) (B Q : Nat → List Nat) (p : Nat → Nat → Nat) (e : Nat) (a3 a4 a5 a6 a7 a8 : Nat → Int32) (a9 : Nat → Int64) (a11 : Nat → Int64) : Prop :=
  n ≤ 60 ∧ m ≤ 60 ∧ la_T n T a3 ∧ la_Q m Q a7 a8 ∧ la_L n m S B Q a4 ∧ la_N n S B p e a5 a6 ∧ la_Z n m S a9 ∧ la_W n B a11
/-- numbers of a shape's last line ahead of l -/
def la_V (S : Nat → Nat) (B : Nat → List Nat) (q : List Nat) (s l : Nat) (a17 : Nat → Int32) : Prop := ∀ i, i < q.length → la_g q i = 1000 → a17 i = nI (la_P S B s i l)
theorem la_V_0 {S : Nat → Nat} {B : Nat → List Nat} {q : List Nat} {s : Nat} {a : Nat → Int32} (hq : q.length ≤ 8) (h : ∀ i, i < 8 → a i = 0) : la_V S B q s 0 a := fun i hi _ => h i (by omega)
theorem la_V_f {S : Nat → Nat} {B : Nat → List Nat} {q : List Nat} {s l : Nat} {a : Nat → Int32} (h : la_V S B q s l a) (e : ¬ S l = s) : la_V S B q s (l + 1) a := fun i hi h1 => by rw [la_P_f e]; exact h i hi h1
theorem la_fill {f s : Nat → Int32} {i k : Nat} {x : Int32} (hk : k = i) (h : ∀ j, j < i → s j = f j) (hx : x = f i) : ∀ j, j < i + 1 → upd s k x j = f j := by
  intro j hj
  rw [hk]
  by_cases e : j = i
  · rw [e, pk_us, hx]
  · rw [pk_un e]
    exact h j (by omega)
section
variable {n m e : Nat} {T S : Nat → Nat} {B Q : Nat → List Nat} {p : Nat → Nat → Nat} {a3 a4 a5 a6 a7 a8 : Nat → Int32} {a9 a11 : Nat → Int64}
theorem la_O_n (h : la_O n m T S B Q p e a3 a4 a5 a6 a7 a8 a9 a11) : n ≤ 60 := h.1
theorem la_O_m (h : la_O n m T S B Q p e a3 a4 a5 a6 a7 a8 a9 a11) : m ≤ 60 := h.2.1
theorem la_O_T (h : la_O n m T S B Q p e a3 a4 a5 a6 a7 a8 a9 a11) : la_T n T a3 := h.2.2.1
theorem la_O_Q (h : la_O n m T S B Q p e a3 a4 a5 a6 a7 a8 a9 a11) : la_Q m Q a7 a8 := h.2.2.2.1
theorem la_O_L (h : la_O n m T S B Q p e a3 a4 a5 a6 a7 a8 a9 a11) : la_L n m S B Q a4 := h.2.2.2.2.1
theorem la_O_N (h : la_O n m T S B Q p e a3 a4 a5 a6 a7 a8 a9 a11) : la_N n S B p e a5 a6 := h.2.2.2.2.2.1
theorem la_O_Z (h : la_O n m T S B Q p e a3 a4 a5 a6 a7 a8 a9 a11) : la_Z n m S a9 := h.2.2.2.2.2.2.1
theorem la_O_W (h : la_O n m T S B Q p e a3 a4 a5 a6 a7 a8 a9 a11) : la_W n B a11 := h.2.2.2.2.2.2.2
/-- of one line -/
theorem la_O_s (h : la_O n m T S B Q p e a3 a4 a5 a6 a7 a8 a9 a11) {l : Nat} (hl : l < n) : a4 l = nI (S l) := (la_O_L h l hl).1
theorem la_O_sm (h : la_O n m T S B Q p e a3 a4 a5 a6 a7 a8 a9 a11) {l : Nat} (hl : l < n) : S l < m := (la_O_L h l hl).2.1
theorem la_O_q (h : la_O n m T S B Q p e a3 a4 a5 a6 a7 a8 a9 a11) {l : Nat} (hl : l < n) : Q (S l) = (B l).map la_bl := (la_O_L h l hl).2.2.1
theorem la_O_ql (h : la_O n m T S B Q p e a3 a4 a5 a6 a7 a8 a9 a11) {l : Nat} (hl : l < n) : (Q (S l)).length = (B l).length := by rw [la_O_q h hl, List.length_map]
theorem la_O_i (h : la_O n m T S B Q p e a3 a4 a5 a6 a7 a8 a9 a11) {l : Nat} (hl : l < n) : ∀ x, x ∈ B l → la_it x := (la_O_L h l hl).2.2.2.1
theorem la_O_0 (h : la_O n m T S B Q p e a3 a4 a5 a6 a7 a8 a9 a11) {l : Nat} (hl : l < n) : 0 < (B l).length := (la_O_L h l hl).2.2.2.2
theorem la_O_8 (h : la_O n m T S B Q p e a3 a4 a5 a6 a7 a8 a9 a11) {l : Nat} (hl : l < n) : (B l).length ≤ 8 := by
  rw [← la_O_ql h hl]
  exact (la_O_Q h _ (la_O_sm h hl)).2.1
theorem la_O_7 (h : la_O n m T S B Q p e a3 a4 a5 a6 a7 a8 a9 a11) {l : Nat} (hl : l < n) : a7 (S l) = nI (B l).length := by
  rw [← la_O_ql h hl]
  exact (la_O_Q h _ (la_O_sm h hl)).1
theorem la_O_g (h : la_O n m T S B Q p e a3 a4 a5 a6 a7 a8 a9 a11) {l i : Nat} (hl : l < n) (hi : i < (B l).length) : la_g (Q (S l)) i = la_bl (la_g (B l) i) := by
  rw [la_O_q h hl, la_gmap hi]
theorem la_O_8i (h : la_O n m T S B Q p e a3 a4 a5 a6 a7 a8 a9 a11) {l i : Nat} (hl : l < n) (hi : i < (B l).length) : a8 (8 * S l + i) = nI (la_bl (la_g (B l) i)) := by
  rw [← la_O_g h hl hi]
  exact (la_O_Q h _ (la_O_sm h hl)).2.2 i (by rw [la_O_ql h hl]; exact hi)
theorem la_O_1 (h : la_O n m T S B Q p e a3 a4 a5 a6 a7 a8 a9 a11) {l i : Nat} (hl : l < n) (hi : i < (B l).length) : la_g (Q (S l)) i = 1000 ↔ 1000 ≤ la_g (B l) i := by
  rw [la_O_g h hl hi]
  exact la_bl_1 (la_O_i h hl _ (la_gm hi))
theorem la_O_e (h : la_O n m T S B Q p e a3 a4 a5 a6 a7 a8 a9 a11) : e ≤ 960 := by
  have h1 := la_O_n h
  have h2 := (la_O_N h).2.2.1
  omega
theorem la_O_t (h : la_O n m T S B Q p e a3 a4 a5 a6 a7 a8 a9 a11) {l : Nat} (hl : l < n) : a3 l = nI (T l) := ((la_O_T h).1 l hl).1
theorem la_O_tb (h : la_O n m T S B Q p e a3 a4 a5 a6 a7 a8 a9 a11) {l : Nat} (hl : l < n) : T l ≤ 1000 := ((la_O_T h).1 l hl).2
theorem la_O_ts (h : la_O n m T S B Q p e a3 a4 a5 a6 a7 a8 a9 a11) {l k : Nat} (hl : l ≤ k) (hk : k < n) : T l ≤ T k := (la_O_T h).2 l k hl hk
end
end
section
/-! ===== methods that only look ===== -/
/-- c: the first line whose time is k or more -/
def la_cu (n : Nat) (T : Nat → Nat) (k c : Nat) : Prop := c ≤ n ∧ (∀ l, l < c → T l < k) ∧ (∀ l, c ≤ l → l < n → k ≤ T l)
theorem la_cu_u {n : Nat} {T : Nat → Nat} {k c d : Nat} (h : la_cu n T k c) (h' : la_cu n T k d) : c = d := by
  obtain ⟨h1, h2, h3⟩ := h
  obtain ⟨g1, g2, g3⟩ := h'
  rcases Nat.lt_trichotomy c d with z | z | z
  · have a := g2 c z
    have b := h3 c (by omega) (by omega)
    omega
  · exact z
  · have a := h2 d z
    have b := g3 d (by omega) (by omega)
    omega
theorem la_cu_le {n : Nat} {T : Nat → Nat} {k k' c d : Nat} (hk : k ≤ k') (h : la_cu n T k c) (h' : la_cu n T k' d) : c ≤ d := by
  obtain ⟨h1, h2, h3⟩ := h
  obtain ⟨g1, g2, g3⟩ := h'
  rcases Nat.lt_or_ge d c with z | z
  · have a := h2 d z
    have b := g3 d (by omega) (by omega)
    omega
  · exact z
/-- how many lines from l on are near it -/
def la_nw (n : Nat) (T : Nat → Nat) (w l : Nat) : Nat := la_cn (fun m => decide (l ≤ m ∧ T m < T l + w)) n
def la_mx (n : Nat) (T : Nat → Nat) (w : Nat) : Nat → Nat
  | 0 => 0
  | l + 1 => if la_nw n T w l ≤ la_mx n T w l then la_mx n T w l else la_nw n T w l
theorem la_nw_le (n : Nat) (T : Nat → Nat) (w l : Nat) : la_nw n T w l ≤ n := la_cn_le _ n
theorem la_mx_le (n : Nat) (T : Nat → Nat) (w l : Nat) : la_mx n T w l ≤ n := by
  induction l with
  | zero => exact Nat.zero_le n
  | succ l ih =>
    unfold la_mx
    split
    · exact ih
    · exact la_nw_le n T w l
section
variable {dc pc ln sh nd ft fr : Int32} {fs : Int64} {a1 a2 a3 a4 a5 a6 a7 a8 a10 a12 a13 a14 a15 a16 a17 a18 a19 a20 : Nat → Int32} {a9 a11 : Nat → Int64}
variable {n m e : Nat} {T S : Nat → Nat} {B Q : Nat → List Nat} {p : Nat → Nat → Nat}
theorem la_isLine {post : Int32 → Prop} {l : Nat} (hn : n ≤ 60) (hl : l < n) (H : post 1) : wpX_isLine post (dc, pc, nI n, sh, nd, ft, fs, fr, a1, a2, a3, a4, a5, a6, a7, a8, a9, a10, a11, a12, a13, a14, a15, a16, a17, a18, a19, a20) (nI l) :=
  br_f (nI_pos (by omega)) (pk_le n l (fun z => absurd z (by omega)) (fun _ => H))
theorem la_time {post : Int32 → Prop} {l : Nat} (h : la_O n m T S B Q p e a3 a4 a5 a6 a7 a8 a9 a11) (hl : l < n) (H : post (nI (T l))) : wpX_time post (dc, pc, nI n, sh, nd, ft, fs, fr, a1, a2, a3, a4, a5, a6, a7, a8, a9, a10, a11, a12, a13, a14, a15, a16, a17, a18, a19, a20) (nI l) := by
  have hn := la_O_n h
  unfold wpX_time
  refine la_isLine hn hl (br_f (by decide) ⟨pk_in l 60 (by omega), ?_⟩)
  rw [nI_clamp (by omega), la_O_t h hl]
  exact H
theorem la_length {post : Int32 → Prop} {l : Nat} (h : la_O n m T S B Q p e a3 a4 a5 a6 a7 a8 a9 a11) (hl : l < n) (H : post (nI (B l).length)) : wpX_length post (dc, pc, nI n, sh, nd, ft, fs, fr, a1, a2, a3, a4, a5, a6, a7, a8, a9, a10, a11, a12, a13, a14, a15, a16, a17, a18, a19, a20) (nI l) := by
  have hn := la_O_n h
  have hm := la_O_m h
  have hs := la_O_sm h hl
  unfold wpX_length
  refine la_isLine hn hl (br_f (by decide) ⟨pk_in l 60 (by omega), ?_⟩)
  rw [nI_clamp (by omega), la_O_s h hl, nI_clamp (by omega), la_O_7 h hl]
  exact ⟨pk_in (S l) 60 (by omega), H⟩
theorem la_lowest {post : Int32 → Prop} {x : Int64} {c : Nat} (hc : c ≤ 60) (h1 : ∀ k, k < c → la_bt x k = false) (h2 : c < 60 → la_bt x c = true) (H : post (nI c)) : wpX_lowest post () x :=
  pk_loop (σ := Unit) (fun q i _ => wX_lowest_2 post x q (nI i)) (fun _ _ => True) c 0 () (by omega) trivial
    (fun q _ _ => pk_le 60 c (fun _ => H) (fun z => br_f (by rw [la_low x (by omega), h2 z]; decide) H))
    (fun q i _ hi _ hw => pk_le 60 i (fun z => absurd z (by omega)) (fun _ => br_t ((la_low x (by omega)).mpr (h1 i hi)) (nm_r (nI_1 i) (hw () trivial))))
theorem la_ones {post : Int32 → Prop} {x : Int64} (H : post (nI (la_cn (la_bt x) 60))) : wpX_ones post () x :=
  pk_loop (σ := Unit) (fun q i _ => wX_ones_4 post x q (nI (la_cn (la_bt x) i)) (nI i)) (fun _ _ => True) 60 0 () (by omega) trivial
    (fun q _ _ => pk_le 60 60 (fun _ => H) (fun z => absurd z (by omega)))
    (fun q i _ hi _ hw => pk_le 60 i (fun z => absurd z (by omega)) (fun _ => nm_r (e' := nI (la_cn (la_bt x) (i + 1))) (by rw [la_one x (by omega), nI_add]; rfl) (nm_r (nI_1 i) (hw () trivial))))
theorem la_group {post : Int32 → Prop} {l : Nat} (h : la_O n m T S B Q p e a3 a4 a5 a6 a7 a8 a9 a11) (hl : l < n) (H : ∀ g, g ≤ l → S g = S l → (∀ k, k < g → ¬ S k = S l) → post (nI g)) : wpX_group post (dc, pc, nI n, sh, nd, ft, fs, fr, a1, a2, a3, a4, a5, a6, a7, a8, a9, a10, a11, a12, a13, a14, a15, a16, a17, a18, a19, a20) (nI l) := by
  have hn := la_O_n h
  have hm := la_O_m h
  have hs := la_O_sm h hl
  obtain ⟨g, hg, hg2⟩ := pk_least (fun k => S k = S l) ⟨l, rfl⟩
  have hgl : g ≤ l := by
    rcases Nat.lt_or_ge l g with z | z
    · exact absurd rfl (hg2 l z)
    · exact z
  unfold wpX_group
  refine la_isLine hn hl (br_f (by decide) ⟨pk_in l 60 (by omega), ?_⟩)
  rw [nI_clamp (by omega), la_O_s h hl]
  unfold wpX_firstOf
  refine ⟨pk_in (S l) 60 (by omega), ?_⟩
  rw [nI_clamp (by omega)]
  refine la_lowest (c := g) (by omega) (fun k hk => ?_) (fun _ => ?_) (H g hgl hg hg2)
  · rw [la_O_Z h _ hs k (by omega)]
    exact decide_eq_false (fun z => hg2 k hk z.2)
  · rw [la_O_Z h _ hs g (by omega)]
    exact decide_eq_true ⟨by omega, hg⟩
theorem la_count {post : Int32 → Prop} {t : Int32} (hn : n ≤ 60) (hm : ∀ l k, l ≤ k → k < n → t ≤ a3 l → t ≤ a3 k)
    (H : ∀ c, c ≤ n → (∀ l, l < c → ¬ t ≤ a3 l) → (∀ l, c ≤ l → l < n → t ≤ a3 l) → post (nI c)) : wpX_countBelow post (dc, pc, nI n, sh, nd, ft, fs, fr, a1, a2, a3, a4, a5, a6, a7, a8, a9, a10, a11, a12, a13, a14, a15, a16, a17, a18, a19, a20) t := by
  refine loop_m (fun q (s : Nat × Nat) => wX_countBelow_7 post t dc pc (nI n) sh nd ft fs fr a1 a2 a3 a4 a5 a6 a7 a8 a9 a10 a11 a12 a13 a14 a15 a16 a17 a18 a19 a20 q (nI s.1) (nI s.2))
    (fun s => s.1 ≤ s.2 ∧ s.2 ≤ n ∧ (∀ l, l < s.1 → ¬ t ≤ a3 l) ∧ (∀ l, s.2 ≤ l → l < n → t ≤ a3 l)) (fun s => s.2 - s.1)
    (fun q s hs hw => ?_) (0, n) ⟨Nat.zero_le n, Nat.le_refl n, fun l g => absurd g (Nat.not_lt_zero l), fun l g1 g2 => absurd g1 (Nat.not_le.mpr g2)⟩
  obtain ⟨lo, hi⟩ := s
  obtain ⟨h1, h2, h3, h4⟩ := hs
  dsimp only at h1 h2 h3 h4
  refine pk_le hi lo (fun z => ?_) (fun z => ?_)
  · exact H lo (by omega) h3 (fun l g => h4 l (by omega))
  · have em : (nI lo + nI hi) >>> ((1 : Int32) &&& 31) = nI ((lo + hi) / 2) := by
      rw [nI_add]
      exact pk_shrN (by omega) _ 1 (by decide)
    refine nm_r em ⟨pk_in ((lo + hi) / 2) 60 (by omega), ?_⟩
    rw [nI_clamp (n := (lo + hi) / 2) (by omega)]
    refine br_c (fun g => hw (lo, (lo + hi) / 2) ⟨?_, ?_, h3, ?_⟩ ?_) (fun g => nm_r (nI_1 _) (hw ((lo + hi) / 2 + 1, hi) ⟨?_, h2, ?_, h4⟩ ?_))
    · show lo ≤ (lo + hi) / 2
      omega
    · show (lo + hi) / 2 ≤ n
      omega
    · intro l g1 g2
      exact hm ((lo + hi) / 2) l g1 g2 g
    · show (lo + hi) / 2 - lo < hi - lo
      omega
    · show (lo + hi) / 2 + 1 ≤ hi
      omega
    · intro l g1 g2
      have g1' : l < (lo + hi) / 2 + 1 := g1
      exact g (hm l ((lo + hi) / 2) (by omega) (by omega) g2)
    · show hi - ((lo + hi) / 2 + 1) < hi - lo
      omega
theorem la_countN {post : Int32 → Prop} {k : Nat} (hk : k < 2 ^ 31) (h : la_O n m T S B Q p e a3 a4 a5 a6 a7 a8 a9 a11) (H : ∀ c, la_cu n T k c → post (nI c)) : wpX_countBelow post (dc, pc, nI n, sh, nd, ft, fs, fr, a1, a2, a3, a4, a5, a6, a7, a8, a9, a10, a11, a12, a13, a14, a15, a16, a17, a18, a19, a20) (nI k) := by
  have hc : ∀ l, l < n → (nI k ≤ a3 l ↔ k ≤ T l) := by
    intro l hl
    have := la_O_tb h hl
    rw [la_O_t h hl, nI_leI hk (by omega)]
  refine la_count (la_O_n h) (fun l j h1 h2 h3 => ?_) (fun c h1 h2 h3 => H c ⟨h1, fun l hl => ?_, fun l g1 g2 => (hc l g2).mp (h3 l g1 g2)⟩)
  · have := la_O_ts h h1 h2
    have := (hc l (by omega)).mp h3
    exact (hc j h2).mpr (by omega)
  · have := h2 l hl
    rw [hc l (by omega)] at this
    omega
theorem la_countM {post : Int32 → Prop} (h : la_O n m T S B Q p e a3 a4 a5 a6 a7 a8 a9 a11) (H : post (nI 0)) : wpX_countBelow post (dc, pc, nI n, sh, nd, ft, fs, fr, a1, a2, a3, a4, a5, a6, a7, a8, a9, a10, a11, a12, a13, a14, a15, a16, a17, a18, a19, a20) (-1) := by
  have hc : ∀ l, l < n → (-1 : Int32) ≤ a3 l := by
    intro l hl
    have hb := la_O_tb h hl
    rw [la_O_t h hl, Int32.le_iff_toInt_le, nI_toInt (by omega), show (-1 : Int32).toInt = -1 by decide]
    omega
  refine la_count (la_O_n h) (fun l j h1 h2 h3 => hc j h2) (fun c h1 h2 h3 => ?_)
  rcases Nat.eq_zero_or_pos c with z | z
  · rw [z]
    exact H
  · exact absurd (hc 0 (by omega)) (h2 0 z)
theorem la_upTo {post : Int32 → Prop} {k : Nat} {t : Int32} (hk : k ≤ 1000) (ht : t + 1 = nI k) (hl : t < 1000) (h : la_O n m T S B Q p e a3 a4 a5 a6 a7 a8 a9 a11) (H : ∀ c, la_cu n T k c → post (nI c)) : wpX_countUpTo post (dc, pc, nI n, sh, nd, ft, fs, fr, a1, a2, a3, a4, a5, a6, a7, a8, a9, a10, a11, a12, a13, a14, a15, a16, a17, a18, a19, a20) t := by
  unfold wpX_countUpTo
  refine br_t hl ?_
  rw [ht]
  exact la_countN (by omega) h H
theorem la_btw {post : Int32 → Prop} {c d : Nat} (hc : c ≤ 60) (hd : d ≤ 60) (H : post (nI (d - c))) : (nI d ≤ nI c → post 0) ∧ (¬ nI d ≤ nI c → post (nI d - nI c)) := by
  refine pk_le d c (fun z => ?_) (fun z => ?_)
  · rw [show d - c = 0 by omega] at H
    exact H
  · rw [pk_sub (by omega)]
    exact H
theorem la_between {post : Int32 → Prop} {j k : Nat} {t : Int32} (hj : j < 2 ^ 31) (hk : k ≤ 1000) (ht : t + 1 = nI k) (hl : t < 1000) (h : la_O n m T S B Q p e a3 a4 a5 a6 a7 a8 a9 a11) (H : ∀ c d, la_cu n T j c → la_cu n T k d → post (nI (d - c))) : wpX_between post (dc, pc, nI n, sh, nd, ft, fs, fr, a1, a2, a3, a4, a5, a6, a7, a8, a9, a10, a11, a12, a13, a14, a15, a16, a17, a18, a19, a20) (nI j) t := by
  have hn := la_O_n h
  unfold wpX_between
  refine la_countN hj h (fun c hc => la_upTo hk ht hl h (fun d hd => la_btw ?_ ?_ (H c d hc hd)))
  · have := hc.1
    omega
  · have := hd.1
    omega
theorem la_betweenM {post : Int32 → Prop} {k : Nat} {t : Int32} (hk : k ≤ 1000) (ht : t + 1 = nI k) (hl : t < 1000) (h : la_O n m T S B Q p e a3 a4 a5 a6 a7 a8 a9 a11) (H : ∀ d, la_cu n T k d → post (nI d)) : wpX_between post (dc, pc, nI n, sh, nd, ft, fs, fr, a1, a2, a3, a4, a5, a6, a7, a8, a9, a10, a11, a12, a13, a14, a15, a16, a17, a18, a19, a20) (-1) t := by
  have hn := la_O_n h
  unfold wpX_between
  refine la_countM h (la_upTo hk ht hl h (fun d hd => la_btw (c := 0) ?_ ?_ (H d hd)))
  · omega
  · have := hd.1
    omega
theorem la_burst {post : Int32 → Prop} {w : Nat} (h1 : 1 ≤ w) (h2 : w ≤ 1000) (h : la_O n m T S B Q p e a3 a4 a5 a6 a7 a8 a9 a11) (H : post (nI (la_mx n T w n))) : wpX_burst post (dc, pc, nI n, sh, nd, ft, fs, fr, a1, a2, a3, a4, a5, a6, a7, a8, a9, a10, a11, a12, a13, a14, a15, a16, a17, a18, a19, a20) (nI w) := by
  have hn := la_O_n h
  unfold wpX_burst
  refine br_t (nI_le (a := 1) h1 (by omega)) ?_
  refine pk_loop (fun q i (e : Nat) => wX_burst_14 post (nI w) dc pc (nI n) sh nd ft fs fr a1 a2 a3 a4 a5 a6 a7 a8 a9 a10 a11 a12 a13 a14 a15 a16 a17 a18 a19 a20 q (nI (la_mx n T w i)) (nI e) (nI i))
    (fun i e => i ≤ e ∧ e ≤ n ∧ (i < n → ∀ j, j < e → T j < T i + w)) n 0 0 (by omega) ⟨by omega, by omega, fun _ j hj => absurd hj (by omega)⟩
    (fun q e he => pk_le n n (fun _ => H) (fun z => absurd z (by omega)))
    (fun q i e hi he hw => pk_le n i (fun z => absurd z (by omega)) (fun _ => ?_))
  obtain ⟨e1, e2, e3⟩ := he
  obtain ⟨c, hc, hc2⟩ := pk_least (fun k => e ≤ k ∧ (k = n ∨ (k < n ∧ T i + w ≤ T k))) ⟨n, e2, Or.inl rfl⟩
  obtain ⟨c1, c2⟩ := hc
  have c3 : ∀ j, j < c → T j < T i + w := by
    intro j hj
    rcases Nat.lt_or_ge j e with z | z
    · exact e3 hi j z
    · have t := hc2 j hj
      rcases Nat.lt_or_ge (T j) (T i + w) with y | y
      · exact y
      · exact absurd ⟨z, Or.inr ⟨by omega, y⟩⟩ t
  have c4 : c ≤ n := by omega
  have c5 : i < c := by
    rcases c2 with y | y
    · omega
    · rcases Nat.lt_or_ge i c with z | z
      · exact z
      · have := la_O_ts h z hi
        omega
  have nw : la_nw n T w i = c - i := by
    unfold la_nw
    rw [la_cn_iv (b := i) (e := c) n (fun m' hm => ?_)]
    · omega
    · by_cases g : m' < c
      · have := c3 m' g
        exact decide_eq_decide.mpr ⟨fun z => ⟨z.1, g⟩, fun z => ⟨z.1, this⟩⟩
      · refine decide_eq_decide.mpr ⟨fun z => ?_, fun z => absurd z.2 g⟩
        rcases c2 with y | y
        · omega
        · have := la_O_ts h (l := c) (k := m') (by omega) hm
          omega
  have fin : wX_burst_55 post (wX_burst_14 post (nI w) dc pc (nI n) sh nd ft fs fr a1 a2 a3 a4 a5 a6 a7 a8 a9 a10 a11 a12 a13 a14 a15 a16 a17 a18 a19 a20 q) (nI w) (nI (la_mx n T w i)) (nI c) (nI i) dc pc (nI n) sh nd ft fs fr a1 a2 a3 a4 a5 a6 a7 a8 a9 a10 a11 a12 a13 a14 a15 a16 a17 a18 a19 a20 := by
    have hmx := la_mx_le n T w i
    unfold wX_burst_55
    rw [pk_sub (by omega)]
    have nx : i + 1 ≤ c ∧ c ≤ n ∧ (i + 1 < n → ∀ j, j < c → T j < T (i + 1) + w) := by
      refine ⟨c5, c4, fun g j hj => ?_⟩
      have := c3 j hj
      have := la_O_ts h (l := i) (k := i + 1) (by omega) g
      omega
    have fw := hw c nx
    unfold la_mx at fw
    rw [nw] at fw
    refine pk_le (c - i) (la_mx n T w i) (fun z => nm_r (nI_1 i) ?_) (fun z => nm_e (nm_r (nI_1 i) ?_))
    · rw [if_pos z] at fw
      exact fw
    · rw [if_neg (by omega)] at fw
      exact fw
  refine pk_loop (σ := Unit) (fun q' k _ => wX_burst_23 post (wX_burst_14 post (nI w) dc pc (nI n) sh nd ft fs fr a1 a2 a3 a4 a5 a6 a7 a8 a9 a10 a11 a12 a13 a14 a15 a16 a17 a18 a19 a20 q) (nI w) (nI (la_mx n T w i)) (nI i) dc pc (nI n) sh nd ft fs fr a1 a2 a3 a4 a5 a6 a7 a8 a9 a10 a11 a12 a13 a14 a15 a16 a17 a18 a19 a20 q' (nI k)) (fun _ _ => True) c e () c1 trivial
    (fun q' _ _ => pk_le n c (fun _ => fin) (fun z => ⟨pk_in c 60 (by omega), pk_in i 60 (by omega), br_t ?_ fin⟩))
    (fun q' k _ hk _ hw' => pk_le n k (fun z => absurd z (by omega)) (fun z => ⟨pk_in k 60 (by omega), pk_in i 60 (by omega), br_f ?_ (nm_r (nI_1 k) (hw' () trivial))⟩))
  · have y : T i + w ≤ T c := by omega
    have := la_O_tb h z
    rw [nI_clamp (by omega), nI_clamp (by omega), la_O_t h z, la_O_t h hi, pk_sub (by omega)]
    exact nI_le (by omega) (by omega)
  · have y := c3 k hk
    have b1 := la_O_tb h z
    have b2 := la_O_tb h hi
    rw [nI_clamp (by omega), nI_clamp (by omega), la_O_t h z, la_O_t h hi, Int32.le_iff_toInt_le, pk_sub_toInt (by omega) (by omega), nI_toInt (by omega)]
    omega
end
end
section
/-! ===== reading lines ===== -/
theorem la_ac (x y : Int32) : x + (y - x) = y := by grind
theorem la_1000 {x : Nat} (h : 1000 ≤ x) : 1000 + nI (x - 1000) = nI x := by
  rw [show (1000 : Int32) = nI 1000 from rfl, nI_add, show 1000 + (x - 1000) = x by omega]
theorem la_k1000 {x : Nat} (h : x < 1000) : ¬ nI x = 1000 := by
  intro z
  have := la_i1 (a := x) (b := 1000) (by omega) (by omega) z
  omega
section
variable {dc pc ln sh nd ft fr : Int32} {fs : Int64} {a1 a2 a3 a4 a5 a6 a7 a8 a10 a12 a13 a14 a15 a16 a17 a18 a19 a20 : Nat → Int32} {a9 a11 : Nat → Int64}
variable {n m e : Nat} {T S : Nat → Nat} {B Q : Nat → List Nat} {p : Nat → Nat → Nat}
theorem la_clear {post : St1 → Prop} (H : ∀ a, (∀ i, i < 8 → a i = 0) → post (dc, pc, ln, sh, nd, ft, fs, fr, a1, a2, a3, a4, a5, a6, a7, a8, a9, a10, a11, a12, a13, a14, a15, a16, a, a18, a19, a20)) : wpX_clearNumbers post (dc, pc, ln, sh, nd, ft, fs, fr, a1, a2, a3, a4, a5, a6, a7, a8, a9, a10, a11, a12, a13, a14, a15, a16, a17, a18, a19, a20) :=
  pk_loop (fun q i s => wX_clearNumbers_2 post dc pc ln sh nd ft fs fr q (nI i) a1 a2 a3 a4 a5 a6 a7 a8 a9 a10 a11 a12 a13 a14 a15 a16 s a18 a19 a20) (fun i s => ∀ j, j < i → s j = 0) 8 0 a17 (by omega) (fun j hj => absurd hj (by omega))
    (fun q s hs => pk_le 8 8 (fun _ => H s hs) (fun z => absurd z (by omega)))
    (fun q i s hi hs hw => pk_le 8 i (fun z => absurd z (by omega)) (fun _ => ⟨pk_in i 8 hi, nm_e (nm_r (nI_1 i) (hw _ (la_fill (f := fun _ => 0) (nI_clamp (by omega)) hs rfl)))⟩))
theorem la_addLine {post : St1 → Prop} {l s : Nat} (h : la_O n m T S B Q p e a3 a4 a5 a6 a7 a8 a9 a11) (hl : l < n) (hs : S l = s) (hv : la_V S B (Q s) s l a17)
    (H : ∀ f a, la_V S B (Q s) s (l + 1) a → post (dc, pc, nI n, sh, nd, ft, fs, f, a1, a2, a3, a4, a5, a6, a7, a8, a9, a10, a11, a12, a13, a14, a15, a16, a, a18, a19, a20)) : wpX_addLine post (dc, pc, nI n, sh, nd, ft, fs, fr, a1, a2, a3, a4, a5, a6, a7, a8, a9, a10, a11, a12, a13, a14, a15, a16, a17, a18, a19, a20) (nI l) (nI s) := by
  subst hs
  have hn := la_O_n h
  have hm := la_O_m h
  have hsm := la_O_sm h hl
  have h8 := la_O_8 h hl
  have he := la_O_e h
  have hN := (la_O_N h).2.2.2 l hl
  unfold wpX_addLine
  refine ⟨pk_in l 61 (by omega), nm_r (e' := nI (p l 0)) (by rw [nI_clamp (by omega)]; exact (la_O_N h).1 l hl) ?_⟩
  refine pk_loop (fun q i (s : Int32 × (Nat → Int32)) => wX_addLine_12 post (nI (S l)) q (nI i) dc pc (nI n) sh nd ft fs s.1 a1 a2 a3 a4 a5 a6 a7 a8 a9 a10 a11 a12 a13 a14 a15 a16 s.2 a18 a19 a20)
    (fun i s => s.1 = nI (p l i) ∧ ∀ j, j < (B l).length → 1000 ≤ la_g (B l) j → s.2 j = nI (la_P S B (S l) j (if j < i then l + 1 else l)))
    (B l).length 0 (nI (p l 0), a17) (by omega) ⟨rfl, ?_⟩ ?_ ?_
  · intro j hj h1
    rw [if_neg (by omega)]
    exact hv j (by rw [la_O_ql h hl]; exact hj) ((la_O_1 h hl hj).mpr h1)
  · rintro q ⟨f, a⟩ ⟨h1, h2⟩
    dsimp only at h1 h2
    refine ⟨pk_in (S l) 60 (by omega), ?_⟩
    rw [nI_clamp (n := S l) (by omega), la_O_7 h hl]
    refine pk_le (B l).length (B l).length (fun _ => H f a (fun j hj h3 => ?_)) (fun z => absurd z (by omega))
    rw [la_O_ql h hl] at hj
    have t := h2 j hj ((la_O_1 h hl hj).mp h3)
    rw [if_pos hj] at t
    exact t
  · rintro q i ⟨f, a⟩ hi ⟨h1, h2⟩ hw
    dsimp only at h1 h2
    subst h1
    have hw2 := fun f a => hw (f, a)
    dsimp only at hw2
    have g1 := hN i hi
    refine ⟨pk_in (S l) 60 (by omega), ?_⟩
    rw [la_8, nI_clamp (n := S l) (by omega), nI_clamp (n := 8 * S l + i) (by omega), la_O_7 h hl, la_O_8i h hl hi]
    refine pk_le (B l).length i (fun z => absurd z (by omega)) (fun _ => ⟨pk_in (8 * S l + i) 480 (by omega), ?_⟩)
    by_cases c : 1000 ≤ la_g (B l) i
    · refine br_t (by rw [la_bl_n c]; rfl) ⟨pk_in i 8 (by omega), ?_⟩
      refine la_take (g1.2.1 c) (by omega) ⟨pk_in i 8 (by omega), nm_e (nm_r (nI_1 i) (hw2 (nI (p l (i + 1))) _ ⟨rfl, ?_⟩))⟩
      intro j hj h3
      dsimp only
      rw [nI_clamp (n := i) (by omega)]
      by_cases ej : j = i
      · rw [ej, pk_us, if_pos (by omega), la_P_t rfl, h2 i hi c, if_neg (by omega), la_ac]
      · rw [pk_un ej, h2 j hj h3]
        by_cases g : j < i
        · rw [if_pos g, if_pos (by omega)]
        · rw [if_neg g, if_neg (by omega)]
    · have t := hw (nI (p l (i + 1)), a) ⟨rfl, ?_⟩
      · rw [g1.2.2 (by omega)] at t
        exact br_f (by rw [la_bl_w (by omega)]; exact la_k1000 (by omega)) (nm_r (nI_1 i) t)
      · intro j hj h3
        dsimp only
        have ej : j ≠ i := fun z => c (z ▸ h3)
        rw [h2 j hj h3]
        by_cases g : j < i
        · rw [if_pos g, if_pos (by omega)]
        · rw [if_neg g, if_neg (by omega)]
theorem la_readLine {post : St1 → Prop} {l : Nat} (h : la_O n m T S B Q p e a3 a4 a5 a6 a7 a8 a9 a11) (hl : l < n)
    (H : ∀ f a b, (∀ i, i < (B l).length → a i = nI (la_g (B l) i)) → post (dc, pc, nI n, sh, nd, ft, fs, f, a1, a2, a3, a4, a5, a6, a7, a8, a9, a10, a11, a12, a13, a14, a15, a, b, a18, a19, a20)) : wpX_readLine post (dc, pc, nI n, sh, nd, ft, fs, fr, a1, a2, a3, a4, a5, a6, a7, a8, a9, a10, a11, a12, a13, a14, a15, a16, a17, a18, a19, a20) (nI l) := by
  have hn := la_O_n h
  have hm := la_O_m h
  have hsm := la_O_sm h hl
  have h8 := la_O_8 h hl
  have hq8 : (Q (S l)).length ≤ 8 := (la_O_Q h _ hsm).2.1
  have l3 : ∀ f b, la_V S B (Q (S l)) (S l) (l + 1) b → ∃ fu, wX_readLine_59 post (nI (S l)) dc pc (nI n) sh nd ft fs f fu 0 a1 a2 a3 a4 a5 a6 a7 a8 a9 a10 a11 a12 a13 a14 a15 a16 b a18 a19 a20 := by
    intro f b hb
    refine pk_loop (fun q i a => wX_readLine_59 post (nI (S l)) dc pc (nI n) sh nd ft fs f q (nI i) a1 a2 a3 a4 a5 a6 a7 a8 a9 a10 a11 a12 a13 a14 a15 a b a18 a19 a20) (fun i a => ∀ j, j < i → a j = nI (la_g (B l) j)) (B l).length 0 a16 (by omega) (fun j hj => absurd hj (by omega)) ?_ ?_
    · intro q a ha
      refine ⟨pk_in (S l) 60 (by omega), ?_⟩
      rw [nI_clamp (n := S l) (by omega), la_O_7 h hl]
      exact pk_le (B l).length (B l).length (fun _ => H f a b ha) (fun z => absurd z (by omega))
    · intro q i a hi ha hw
      refine ⟨pk_in (S l) 60 (by omega), ?_⟩
      rw [la_8, nI_clamp (n := S l) (by omega), nI_clamp (n := 8 * S l + i) (by omega), nI_clamp (n := i) (by omega), la_O_7 h hl, la_O_8i h hl hi]
      refine pk_le (B l).length i (fun z => absurd z (by omega)) (fun _ => ⟨pk_in (8 * S l + i) 480 (by omega), nm_e ?_⟩)
      by_cases c : 1000 ≤ la_g (B l) i
      · refine br_t (by rw [la_bl_n c]; rfl) ⟨pk_in i 8 (by omega), pk_in i 8 (by omega), nm_e (nm_r (nI_1 i) (hw _ (la_fill (f := fun j => nI (la_g (B l) j)) rfl ha ?_)))⟩
        have t := hb i (by rw [la_O_ql h hl]; exact hi) ((la_O_1 h hl hi).mpr c)
        rw [t, la_P_t rfl]
        exact la_1000 c
      · exact br_f (by rw [la_bl_w (by omega)]; exact la_k1000 (by omega)) ⟨pk_in i 8 (by omega), nm_e (nm_r (nI_1 i) (hw _ (la_fill (f := fun j => nI (la_g (B l) j)) rfl ha (by rw [la_bl_w (by omega)]))))⟩
  have l2 : ∀ b, (∀ i, i < 8 → b i = 0) → ∃ fu, wX_readLine_30 post (nI l) (nI (S l)) fu 0 dc pc (nI n) sh nd ft fs fr a1 a2 a3 a4 a5 a6 a7 a8 a9 a10 a11 a12 a13 a14 a15 a16 b a18 a19 a20 := by
    intro b hb
    refine pk_loop (fun q i (s : Int32 × (Nat → Int32)) => wX_readLine_30 post (nI l) (nI (S l)) q (nI i) dc pc (nI n) sh nd ft fs s.1 a1 a2 a3 a4 a5 a6 a7 a8 a9 a10 a11 a12 a13 a14 a15 a16 s.2 a18 a19 a20) (fun i s => la_V S B (Q (S l)) (S l) i s.2) (l + 1) 0 (fr, b) (by omega) (la_V_0 hq8 hb) ?_ ?_
    · rintro q ⟨f, a⟩ ha
      exact pk_lt l (l + 1) (fun _ => l3 f a ha) (fun z => absurd z (by omega))
    · rintro q i ⟨f, a⟩ hi ha hw
      have hsi := la_O_sm h (show i < n by omega)
      refine pk_lt l i (fun z => absurd z (by omega)) (fun _ => ⟨pk_in i 60 (by omega), ?_⟩)
      rw [nI_clamp (n := i) (by omega), la_O_s h (show i < n by omega)]
      refine pk_eq (S i) (S l) (fun z => ?_) (fun z => nm_r (nI_1 i) (hw (f, a) (la_V_f ha z)))
      exact la_addLine h (by omega) z ha (fun f' a' ha' => nm_r (nI_1 i) (hw (f', a') ha'))
  unfold wpX_readLine
  refine ⟨pk_in l 60 (by omega), nm_r (e' := nI (S l)) (by rw [nI_clamp (by omega)]; exact la_O_s h hl) ?_⟩
  exact pk_loop (fun q i s => wX_readLine_9 post (nI l) (nI (S l)) dc pc (nI n) sh nd ft fs fr q (nI i) a1 a2 a3 a4 a5 a6 a7 a8 a9 a10 a11 a12 a13 a14 a15 a16 s a18 a19 a20) (fun i s => ∀ j, j < i → s j = 0) 8 0 a17 (by omega) (fun j hj => absurd hj (by omega))
    (fun q s hs => pk_le 8 8 (fun _ => l2 s hs) (fun z => absurd z (by omega)))
    (fun q i s hi hs hw => pk_le 8 i (fun z => absurd z (by omega)) (fun _ => ⟨pk_in i 8 hi, nm_e (nm_r (nI_1 i) (hw _ (la_fill (f := fun _ => 0) (nI_clamp (by omega)) hs rfl)))⟩))
theorem la_at {post : Int32 → St1 → Prop} {l i : Nat} (h : la_O n m T S B Q p e a3 a4 a5 a6 a7 a8 a9 a11) (hl : l < n) (hi : i < (B l).length)
    (H : ∀ f a b, post (nI (la_g (B l) i)) (dc, pc, nI n, sh, nd, ft, fs, f, a1, a2, a3, a4, a5, a6, a7, a8, a9, a10, a11, a12, a13, a14, a15, a, b, a18, a19, a20)) : wpX_at post (dc, pc, nI n, sh, nd, ft, fs, fr, a1, a2, a3, a4, a5, a6, a7, a8, a9, a10, a11, a12, a13, a14, a15, a16, a17, a18, a19, a20) (nI l) (nI i) := by
  have hn := la_O_n h
  have hm := la_O_m h
  have hsm := la_O_sm h hl
  have h8 := la_O_8 h hl
  unfold wpX_at
  refine la_isLine hn hl (br_f (by decide) (br_f (nI_pos (by omega)) ⟨pk_in l 60 (by omega), ?_⟩))
  rw [nI_clamp (n := l) (by omega), la_O_s h hl, nI_clamp (n := S l) (by omega), la_O_7 h hl]
  refine ⟨pk_in (S l) 60 (by omega), pk_lt i (B l).length (fun _ => ?_) (fun z => absurd z (by omega))⟩
  refine la_readLine h hl (fun f a b hr => ⟨pk_in i 8 (by omega), ?_⟩)
  rw [nI_clamp (n := i) (by omega), hr i hi]
  exact H f a b
theorem la_has {post : Int32 → St1 → Prop} {l x : Nat} (hx : la_it x) (h : la_O n m T S B Q p e a3 a4 a5 a6 a7 a8 a9 a11) (hl : l < n)
    (H1 : x ∈ B l → ∀ f a b, post 1 (dc, pc, nI n, sh, nd, ft, fs, f, a1, a2, a3, a4, a5, a6, a7, a8, a9, a10, a11, a12, a13, a14, a15, a, b, a18, a19, a20)) (H0 : ¬ x ∈ B l → ∀ f a b, post 0 (dc, pc, nI n, sh, nd, ft, fs, f, a1, a2, a3, a4, a5, a6, a7, a8, a9, a10, a11, a12, a13, a14, a15, a, b, a18, a19, a20)) : wpL_has post (dc, pc, nI n, sh, nd, ft, fs, fr, a1, a2, a3, a4, a5, a6, a7, a8, a9, a10, a11, a12, a13, a14, a15, a16, a17, a18, a19, a20) (nI l) (nI x) := by
  have hxl := la_it_lt hx
  have h8 := la_O_8 h hl
  unfold wpL_has
  refine pk_loop (fun q i (s : Int32 × (Nat → Int32) × (Nat → Int32)) => wL_has_2 post (nI l) (nI x) q (nI i) dc pc (nI n) sh nd ft fs s.1 a1 a2 a3 a4 a5 a6 a7 a8 a9 a10 a11 a12 a13 a14 a15 s.2.1 s.2.2 a18 a19 a20) (fun i _ => ∀ j, j < i → ¬ la_g (B l) j = x) (B l).length 0 (fr, a16, a17) (by omega) (fun j hj => absurd hj (by omega)) ?_ ?_
  · rintro q ⟨f, a, b⟩ hs
    unfold wL_has_2
    refine la_length h hl (pk_le (B l).length (B l).length (fun _ => H0 (fun z => ?_) f a b) (fun z => absurd z (by omega)))
    obtain ⟨i, hi, e⟩ := la_mg z
    exact hs i hi e
  · rintro q i ⟨f, a, b⟩ hi hs hw
    unfold wL_has_2
    refine la_length h hl (pk_le (B l).length i (fun z => absurd z (by omega)) (fun _ => ?_))
    refine la_at h hl hi (fun f' a' b' => ?_)
    have hgl := la_g_lt (la_O_i h hl) i
    refine pk_eq (la_g (B l) i) x (fun z => H1 (z ▸ la_gm hi) f' a' b') (fun z => nm_r (nI_1 i) (hw (f', a', b') (fun j hj => ?_)))
    by_cases ej : j = i
    · rw [ej]
      exact z
    · exact hs j (by omega)
end
end
section
/-! ===== having, digest ===== -/
/-- what a line adds to the digest, up to column i -/
def la_dl (b : List Nat) (t : Int32) : Nat → Int32
  | 0 => t
  | i + 1 => la_dl b t i + (nI i + 3) * nI (la_g b i)
def la_dg (T : Nat → Nat) (B : Nat → List Nat) : Nat → Int32
  | 0 => 0
  | l + 1 => la_dg T B l + (nI l + 1) * la_dl (B l) (nI (T l)) (B l).length
section
variable {dc pc ln sh nd ft fr : Int32} {fs : Int64} {a1 a2 a3 a4 a5 a6 a7 a8 a10 a12 a13 a14 a15 a16 a17 a18 a19 a20 : Nat → Int32} {a9 a11 : Nat → Int64}
variable {n m e : Nat} {T S : Nat → Nat} {B Q : Nat → List Nat} {p : Nat → Nat → Nat}
theorem la_isNumber_t {post : Int32 → Prop} {x : Nat} (h1 : 1000 ≤ x) (h2 : x < 2000) (H : post 1) : wpX_isNumber post () (nI x) :=
  pk_lt x 1000 (fun z => absurd z (by omega)) (fun _ => pk_le 2000 x (fun z => absurd z (by omega)) (fun _ => H))
theorem la_isNumber_f {post : Int32 → Prop} {x : Nat} (h1 : x < 1000) (H : post 0) : wpX_isNumber post () (nI x) :=
  pk_lt x 1000 (fun _ => H) (fun z => absurd z (by omega))
theorem la_isItem {post : Int32 → Prop} {x : Nat} (h : la_it x) (H : post 1) : wpX_isItem post () (nI x) := by
  have hx := la_it_lt h
  unfold la_it at h
  unfold wpX_isItem
  refine br_f (nI_pos (by omega)) (pk_lt x 24 (fun _ => H) (fun z => ?_))
  unfold wX_isItem_10
  exact la_isNumber_t (by omega) (by omega) (br_f (by decide) H)
theorem la_blanked {post : Int32 → Prop} {x : Nat} (h : la_it x) (H : post (nI (la_bl x))) : wpX_blanked post () (nI x) := by
  unfold la_it at h
  unfold wpX_blanked
  by_cases c : 1000 ≤ x
  · rw [la_bl_n c] at H
    exact la_isNumber_t c (by omega) (br_f (by decide) H)
  · rw [la_bl_w (by omega)] at H
    exact la_isNumber_f (by omega) (br_t rfl H)
theorem la_hasNumber {post : Int32 → Prop} {l v : Nat} (hv : v < 1000) (h : la_O n m T S B Q p e a3 a4 a5 a6 a7 a8 a9 a11) (hl : l < n) (ha : la_V S B (Q (S l)) (S l) (l + 1) a17)
    (H1 : v + 1000 ∈ B l → post 1) (H0 : ¬ v + 1000 ∈ B l → post 0) : wpX_hasNumber post (dc, pc, nI n, sh, nd, ft, fs, fr, a1, a2, a3, a4, a5, a6, a7, a8, a9, a10, a11, a12, a13, a14, a15, a16, a17, a18, a19, a20) (nI (S l)) (nI v) := by
  have hn := la_O_n h
  have hm := la_O_m h
  have hsm := la_O_sm h hl
  have h8 := la_O_8 h hl
  unfold wpX_hasNumber
  refine pk_loop (σ := Unit) (fun q i _ => wX_hasNumber_2 post (nI (S l)) (nI v) dc pc (nI n) sh nd ft fs fr a1 a2 a3 a4 a5 a6 a7 a8 a9 a10 a11 a12 a13 a14 a15 a16 a17 a18 a19 a20 q (nI i)) (fun i _ => ∀ j, j < i → ¬ la_g (B l) j = v + 1000) (B l).length 0 () (by omega) (fun j hj => absurd hj (by omega)) ?_ ?_
  · intro q _ hs
    refine ⟨pk_in (S l) 60 (by omega), ?_⟩
    rw [nI_clamp (n := S l) (by omega), la_O_7 h hl]
    refine pk_le (B l).length (B l).length (fun _ => H0 (fun z => ?_)) (fun z => absurd z (by omega))
    obtain ⟨i, hi, e⟩ := la_mg z
    exact hs i hi e
  · intro q i _ hi hs hw
    have hgl := la_g_lt (la_O_i h hl) i
    refine ⟨pk_in (S l) 60 (by omega), ?_⟩
    rw [la_8, nI_clamp (n := S l) (by omega), nI_clamp (n := 8 * S l + i) (by omega), nI_clamp (n := i) (by omega), la_O_7 h hl, la_O_8i h hl hi]
    refine pk_le (B l).length i (fun z => absurd z (by omega)) (fun _ => ⟨pk_in (8 * S l + i) 480 (by omega), ?_⟩)
    have nx : ¬ la_g (B l) i = v + 1000 → ∀ j, j < i + 1 → ¬ la_g (B l) j = v + 1000 := by
      intro z j hj
      by_cases ej : j = i
      · rw [ej]
        exact z
      · exact hs j (by omega)
    by_cases c : 1000 ≤ la_g (B l) i
    · have t := ha i (by rw [la_O_ql h hl]; exact hi) ((la_O_1 h hl hi).mpr c)
      rw [la_P_t rfl] at t
      refine br_t (by rw [la_bl_n c]; rfl) ⟨pk_in i 8 (by omega), ?_⟩
      rw [t]
      refine pk_eq (la_g (B l) i - 1000) v (fun z => H1 ?_) (fun z => nm_r (nI_1 i) (hw () (nx (by omega))))
      have e2 : v + 1000 = la_g (B l) i := by omega
      rw [e2]
      exact la_gm hi
    · exact br_f (by rw [la_bl_w (by omega)]; exact la_k1000 (by omega)) (nm_r (nI_1 i) (hw () (nx (by omega))))
theorem la_havingIn {post : Int32 → St1 → Prop} {s v : Nat} (hv : v < 1000) (h : la_O n m T S B Q p e a3 a4 a5 a6 a7 a8 a9 a11) (hs : s < m)
    (H : ∀ f a, post (nI (la_cn (fun l => decide (S l = s) && decide (v + 1000 ∈ B l)) n)) (dc, pc, nI n, sh, nd, ft, fs, f, a1, a2, a3, a4, a5, a6, a7, a8, a9, a10, a11, a12, a13, a14, a15, a16, a, a18, a19, a20)) : wpX_havingIn post (dc, pc, nI n, sh, nd, ft, fs, fr, a1, a2, a3, a4, a5, a6, a7, a8, a9, a10, a11, a12, a13, a14, a15, a16, a17, a18, a19, a20) (nI s) (nI v) := by
  have hn := la_O_n h
  have hm := la_O_m h
  have hq8 : (Q s).length ≤ 8 := (la_O_Q h _ hs).2.1
  unfold wpX_havingIn
  refine la_clear (fun a0 ha0 => ?_)
  refine pk_loop (fun q l (t : Int32 × (Nat → Int32)) => wX_havingIn_9 post (nI s) (nI v) q (nI (la_cn (fun l => decide (S l = s) && decide (v + 1000 ∈ B l)) l)) (nI l) dc pc (nI n) sh nd ft fs t.1 a1 a2 a3 a4 a5 a6 a7 a8 a9 a10 a11 a12 a13 a14 a15 a16 t.2 a18 a19 a20) (fun l t => la_V S B (Q s) s l t.2) n 0 (fr, a0) (by omega) (la_V_0 hq8 ha0) ?_ ?_
  · rintro q ⟨f, a⟩ ha
    exact pk_le n n (fun _ => H f a) (fun z => absurd z (by omega))
  · rintro q l ⟨f, a⟩ hl ha hw
    have hsl := la_O_sm h hl
    refine pk_le n l (fun z => absurd z (by omega)) (fun _ => ⟨pk_in l 60 (by omega), ?_⟩)
    rw [nI_clamp (n := l) (by omega), la_O_s h hl]
    refine pk_eq (S l) s (fun z => ?_) (fun z => nm_r (nI_1 l) ?_)
    · subst z
      refine la_addLine h hl rfl ha (fun f' a' ha' => la_hasNumber hv h hl ha' (fun g => br_f (by decide) (nm_r (e' := nI (la_cn (fun k => decide (S k = S l) && decide (v + 1000 ∈ B k)) (l + 1))) ?_ (nm_r (nI_1 l) (hw (f', a') ha')))) (fun g => br_t rfl (nm_r (e' := nI (la_cn (fun k => decide (S k = S l) && decide (v + 1000 ∈ B k)) (l + 1))) ?_ (nm_r (nI_1 l) (hw (f', a') ha')))))
      · rw [la_cn_t (by rw [decide_eq_true g, decide_eq_true rfl]; rfl), nI_1]
      · rw [la_cn_f (by rw [decide_eq_false g, Bool.and_false])]
        exact Int32.add_zero _
    · have t := hw (f, a) (la_V_f ha z)
      dsimp only at t
      rw [la_cn_f (by rw [decide_eq_false z, Bool.false_and])] at t
      exact t
theorem la_having {post : Int32 → St1 → Prop} {x : Nat} (hx : la_it x) (h : la_O n m T S B Q p e a3 a4 a5 a6 a7 a8 a9 a11)
    (H : ∀ f a, post (nI (la_cn (fun l => decide (x ∈ B l)) n)) (dc, pc, nI n, nI m, nd, ft, fs, f, a1, a2, a3, a4, a5, a6, a7, a8, a9, a10, a11, a12, a13, a14, a15, a16, a, a18, a19, a20)) : wpX_having post (dc, pc, nI n, nI m, nd, ft, fs, fr, a1, a2, a3, a4, a5, a6, a7, a8, a9, a10, a11, a12, a13, a14, a15, a16, a17, a18, a19, a20) (nI x) := by
  have hn := la_O_n h
  have hm := la_O_m h
  have hxl := la_it_lt hx
  have hx' := hx
  unfold la_it at hx'
  unfold wpX_having
  refine la_isItem hx (br_f (by decide) ?_)
  by_cases c : 1000 ≤ x
  · refine la_isNumber_t c hxl (br_f (by decide) ?_)
    have e0 : nI x - 1000 = nI (x - 1000) := pk_sub (a := x) (b := 1000) c
    refine pk_loop (fun q s (t : Int32 × (Nat → Int32)) => wX_having_30 post (nI x) q (nI (la_sum (fun s => la_cn (fun l => decide (S l = s) && decide (x ∈ B l)) n) s)) (nI s) dc pc (nI n) (nI m) nd ft fs t.1 a1 a2 a3 a4 a5 a6 a7 a8 a9 a10 a11 a12 a13 a14 a15 a16 t.2 a18 a19 a20) (fun _ _ => True) m 0 (fr, a17) (by omega) trivial ?_ ?_
    · rintro q ⟨f, a⟩ _
      refine pk_le m m (fun _ => ?_) (fun z => absurd z (by omega))
      have t := H f a
      rw [← la_sum_cn (S := S) (m := m) (fun l hl => la_O_sm h hl)] at t
      exact t
    · rintro q s ⟨f, a⟩ hs _ hw
      refine pk_le m s (fun z => absurd z (by omega)) (fun _ => ?_)
      rw [e0]
      refine la_havingIn (v := x - 1000) (by omega) h hs (fun f' a' => ?_)
      rw [show x - 1000 + 1000 = x by omega]
      exact nm_r (nI_add _ _) (nm_r (nI_1 s) (hw (f', a') trivial))
  · refine la_isNumber_f (by omega) (br_t rfl ⟨pk_in x 24 (by omega), ?_⟩)
    rw [nI_clamp (by omega)]
    refine la_ones ?_
    have e1 : la_cn (la_bt (a11 x)) 60 = la_cn (fun l => decide (x ∈ B l)) n := by
      rw [show 60 = n + (60 - n) by omega, la_cn_up (60 - n) (fun k h1 h2 => ?_)]
      · apply la_cn_co
        intro l hl
        rw [la_O_W h x (by omega) l (by omega)]
        exact decide_eq_decide.mpr ⟨fun z => z.2, fun z => ⟨hl, z⟩⟩
      · rw [la_O_W h x (by omega) k (by omega)]
        exact decide_eq_false (fun z => absurd z.1 (by omega))
    rw [e1]
    exact H _ _
theorem la_digest {post : Int32 → St1 → Prop} (h : la_O n m T S B Q p e a3 a4 a5 a6 a7 a8 a9 a11)
    (H : ∀ f a b, post (la_dg T B n) (dc, pc, nI n, sh, nd, ft, fs, f, a1, a2, a3, a4, a5, a6, a7, a8, a9, a10, a11, a12, a13, a14, a15, a, b, a18, a19, a20)) : wpX_digest post (dc, pc, nI n, sh, nd, ft, fs, fr, a1, a2, a3, a4, a5, a6, a7, a8, a9, a10, a11, a12, a13, a14, a15, a16, a17, a18, a19, a20) := by
  have hn := la_O_n h
  have hm := la_O_m h
  unfold wpX_digest
  refine pk_loop (fun q l (t : Int32 × (Nat → Int32) × (Nat → Int32)) => wX_digest_4 post q (la_dg T B l) (nI l) dc pc (nI n) sh nd ft fs t.1 a1 a2 a3 a4 a5 a6 a7 a8 a9 a10 a11 a12 a13 a14 a15 t.2.1 t.2.2 a18 a19 a20) (fun _ _ => True) n 0 (fr, a16, a17) (by omega) trivial ?_ ?_
  · rintro q ⟨f, a, b⟩ _
    exact pk_le n n (fun _ => H f a b) (fun z => absurd z (by omega))
  · rintro q l ⟨f, a, b⟩ hl _ hw
    have h8 := la_O_8 h hl
    have hsl := la_O_sm h hl
    refine pk_le n l (fun z => absurd z (by omega)) (fun _ => ?_)
    refine la_readLine h hl (fun f' a' b' hr => ⟨pk_in l 60 (by omega), nm_r (e' := nI (T l)) (by rw [nI_clamp (by omega)]; exact la_O_t h hl) ?_⟩)
    refine pk_loop (σ := Unit) (fun q' i _ => wX_digest_27 post (wX_digest_4 post q) (la_dg T B l) (nI l) dc pc (nI n) sh nd ft fs f' a1 a2 a3 a4 a5 a6 a7 a8 a9 a10 a11 a12 a13 a14 a15 a' b' a18 a19 a20 q' (la_dl (B l) (nI (T l)) i) (nI i)) (fun _ _ => True) (B l).length 0 () (by omega) trivial ?_ ?_
    · intro q' _ _
      refine ⟨pk_in l 60 (by omega), ?_⟩
      rw [nI_clamp (n := l) (by omega), la_O_s h hl, nI_clamp (n := S l) (by omega), la_O_7 h hl]
      exact ⟨pk_in (S l) 60 (by omega), pk_le (B l).length (B l).length (fun _ => nm_e (nm_r (nI_1 l) (hw (f', a', b') trivial))) (fun z => absurd z (by omega))⟩
    · intro q' i _ hi _ hw'
      refine ⟨pk_in l 60 (by omega), ?_⟩
      rw [nI_clamp (n := l) (by omega), la_O_s h hl, nI_clamp (n := S l) (by omega), la_O_7 h hl, nI_clamp (n := i) (by omega), hr i hi]
      exact ⟨pk_in (S l) 60 (by omega), pk_le (B l).length i (fun z => absurd z (by omega)) (fun _ => ⟨pk_in i 8 (by omega), nm_e (nm_r (nI_1 i) (hw' () trivial))⟩)⟩
end
end
section
/-! ===== column ===== -/
def la_v (B : Nat → List Nat) (i l : Nat) : Int32 := nI (la_g (B l) i) - 1000
def la_ls (S : Nat → Nat) (B : Nat → List Nat) (s i : Nat) : Nat → Int32
  | 0 => 1000
  | l + 1 => if S l = s then (if la_ls S B s i l ≤ la_v B i l then la_ls S B s i l else la_v B i l) else la_ls S B s i l
def la_mo (S : Nat → Nat) (B : Nat → List Nat) (s i : Nat) : Nat → Int32
  | 0 => -1
  | l + 1 => if S l = s then (if la_v B i l ≤ la_mo S B s i l then la_mo S B s i l else la_v B i l) else la_mo S B s i l
def la_su (S : Nat → Nat) (B : Nat → List Nat) (s i : Nat) : Nat → Int32
  | 0 => 0
  | l + 1 => if S l = s then la_su S B s i l + la_v B i l else la_su S B s i l
/-- no line of the shape ahead of l has this item in the column -/
def la_new (S : Nat → Nat) (B : Nat → List Nat) (s i l x : Nat) : Prop := ∀ o, o < l → S o = s → ¬ la_g (B o) i = x
theorem la_new_s {S : Nat → Nat} {B : Nat → List Nat} {s i l x : Nat} : la_new S B s i (l + 1) x ↔ la_new S B s i l x ∧ (S l = s → ¬ la_g (B l) i = x) := by
  constructor
  · intro h
    exact ⟨fun o ho => h o (by omega), fun e => h l (by omega) e⟩
  · intro h o ho
    by_cases e : o = l
    · rw [e]
      exact h.2
    · exact h.1 o (by omega)
noncomputable def la_df (S : Nat → Nat) (B : Nat → List Nat) (s i : Nat) : Nat → Nat
  | 0 => 0
  | l + 1 => @ite Nat (S l = s ∧ la_new S B s i l (la_g (B l) i)) (Classical.propDecidable _) (la_df S B s i l + 1) (la_df S B s i l)
theorem la_df_t {S : Nat → Nat} {B : Nat → List Nat} {s i l : Nat} (h : S l = s ∧ la_new S B s i l (la_g (B l) i)) : la_df S B s i (l + 1) = la_df S B s i l + 1 := if_pos h
theorem la_df_f {S : Nat → Nat} {B : Nat → List Nat} {s i l : Nat} (h : ¬ (S l = s ∧ la_new S B s i l (la_g (B l) i))) : la_df S B s i (l + 1) = la_df S B s i l := if_neg h
theorem la_df_le (S : Nat → Nat) (B : Nat → List Nat) (s i l : Nat) : la_df S B s i l ≤ l := by
  induction l with
  | zero => exact Nat.le_refl 0
  | succ l ih =>
    by_cases c : S l = s ∧ la_new S B s i l (la_g (B l) i)
    · rw [la_df_t c]
      omega
    · rw [la_df_f c]
      omega
/-- a row in order -/
def la_I (c : Nat) (R : Nat → Nat) (a18 : Nat → Int32) : Prop := (∀ j, j < c → a18 j = nI (R j) ∧ R j < 1000) ∧ (∀ j k, j < k → k < c → R j < R k)
def la_rs (S : Nat → Nat) (B : Nat → List Nat) (s i n : Nat) (w : Int32) : Int32 := if w = 0 then la_ls S B s i n else if w = 1 then la_mo S B s i n else la_su S B s i n
section
variable {dc pc ln sh nd ft fr : Int32} {fs : Int64} {a1 a2 a3 a4 a5 a6 a7 a8 a10 a12 a13 a14 a15 a16 a17 a18 a19 a20 : Nat → Int32} {a9 a11 : Nat → Int64}
variable {n m e : Nat} {T S : Nat → Nat} {B Q : Nat → List Nat} {p : Nat → Nat → Nat}
theorem la_a17 {l s i : Nat} (h : la_O n m T S B Q p e a3 a4 a5 a6 a7 a8 a9 a11) (hl : l < n) (hs : S l = s) (hi : i < (Q s).length) (hb : la_g (Q s) i = 1000) : 1000 ≤ la_g (B l) i ∧ la_g (B l) i < 2000 ∧ i < 8 ∧ la_v B i l = nI (la_g (B l) i - 1000) ∧ ∀ a, la_V S B (Q s) s (l + 1) a → a i = la_v B i l := by
  subst hs
  have hi' : i < (B l).length := by
    rw [← la_O_ql h hl]
    exact hi
  have h8 := la_O_8 h hl
  have c := (la_O_1 h hl hi').mp hb
  have e : la_v B i l = nI (la_g (B l) i - 1000) := pk_sub (a := la_g (B l) i) (b := 1000) c
  refine ⟨c, la_g_lt (la_O_i h hl) i, by omega, e, fun a ha => ?_⟩
  rw [ha i hi hb, la_P_t rfl, e]
theorem la_totalIn {post : Int32 → St1 → Prop} {s i : Nat} {w : Int32} (h : la_O n m T S B Q p e a3 a4 a5 a6 a7 a8 a9 a11) (hs : s < m) (hi : i < (Q s).length) (hb : la_g (Q s) i = 1000)
    (H : ∀ f a, post (la_rs S B s i n w) (dc, pc, nI n, sh, nd, ft, fs, f, a1, a2, a3, a4, a5, a6, a7, a8, a9, a10, a11, a12, a13, a14, a15, a16, a, a18, a19, a20)) : wpX_totalIn post (dc, pc, nI n, sh, nd, ft, fs, fr, a1, a2, a3, a4, a5, a6, a7, a8, a9, a10, a11, a12, a13, a14, a15, a16, a17, a18, a19, a20) (nI s) (nI i) w := by
  have hn := la_O_n h
  have hm := la_O_m h
  have hq8 : (Q s).length ≤ 8 := (la_O_Q h _ hs).2.1
  unfold wpX_totalIn
  refine la_clear (fun a0 ha0 => ?_)
  refine pk_loop (fun q l (t : Int32 × (Nat → Int32)) => wX_totalIn_18 post (nI s) (nI i) w q (la_ls S B s i l) (la_mo S B s i l) (la_su S B s i l) (nI l) dc pc (nI n) sh nd ft fs t.1 a1 a2 a3 a4 a5 a6 a7 a8 a9 a10 a11 a12 a13 a14 a15 a16 t.2 a18 a19 a20) (fun l t => la_V S B (Q s) s l t.2) n 0 (fr, a0) (by omega) (la_V_0 hq8 ha0) ?_ ?_
  · rintro q ⟨f, a⟩ ha
    refine pk_le n n (fun _ => ?_) (fun z => absurd z (by omega))
    have t := H f a
    unfold la_rs at t
    refine br_c (fun z => ?_) (fun z => br_c (fun z' => ?_) (fun z' => ?_))
    · rw [if_pos z] at t
      exact t
    · rw [if_neg z, if_pos z'] at t
      exact t
    · rw [if_neg z, if_neg z'] at t
      exact t
  · rintro q l ⟨f, a⟩ hl ha hw
    have hsl := la_O_sm h hl
    refine pk_le n l (fun z => absurd z (by omega)) (fun _ => ⟨pk_in l 60 (by omega), ?_⟩)
    rw [nI_clamp (n := l) (by omega), la_O_s h hl]
    refine pk_eq (S l) s (fun z => ?_) (fun z => nm_r (nI_1 l) ?_)
    · obtain ⟨v1, v2, v3, v4, v5⟩ := la_a17 h hl z hi hb
      refine la_addLine h hl z ha (fun f' a' ha' => ⟨pk_in i 8 v3, ?_⟩)
      have t := hw (f', a') ha'
      dsimp only at t
      rw [la_ls, la_mo, la_su, if_pos z, if_pos z, if_pos z] at t
      have last : ∀ x4 z0 : Int32, wX_totalIn_18 post (nI s) (nI i) w q x4 z0 (la_su S B s i l + la_v B i l) (nI (l + 1)) dc pc (nI n) sh nd ft fs f' a1 a2 a3 a4 a5 a6 a7 a8 a9 a10 a11 a12 a13 a14 a15 a16 a' a18 a19 a20 → wX_totalIn_91 post (wX_totalIn_18 post (nI s) (nI i) w q) (nI s) (nI i) w x4 (la_su S B s i l) (nI l) z0 dc pc (nI n) sh nd ft fs f' a1 a2 a3 a4 a5 a6 a7 a8 a9 a10 a11 a12 a13 a14 a15 a16 a' a18 a19 a20 := by
        intro x4 z0 ht
        refine ⟨pk_in i 8 v3, nm_r (e' := la_su S B s i l + la_v B i l) ?_ (nm_r (nI_1 l) ht)⟩
        rw [nI_clamp (by omega), v5 a' ha']
      have mid : ∀ z0 : Int32, wX_totalIn_18 post (nI s) (nI i) w q z0 (if la_v B i l ≤ la_mo S B s i l then la_mo S B s i l else la_v B i l) (la_su S B s i l + la_v B i l) (nI (l + 1)) dc pc (nI n) sh nd ft fs f' a1 a2 a3 a4 a5 a6 a7 a8 a9 a10 a11 a12 a13 a14 a15 a16 a' a18 a19 a20 → wX_totalIn_67 post (wX_totalIn_18 post (nI s) (nI i) w q) (nI s) (nI i) w (la_mo S B s i l) (la_su S B s i l) (nI l) z0 dc pc (nI n) sh nd ft fs f' a1 a2 a3 a4 a5 a6 a7 a8 a9 a10 a11 a12 a13 a14 a15 a16 a' a18 a19 a20 := by
        intro z0 ht
        refine ⟨pk_in i 8 v3, ?_⟩
        rw [nI_clamp (n := i) (by omega), v5 a' ha']
        refine br_c (fun g => last _ _ ?_) (fun g => ⟨pk_in i 8 v3, last _ _ ?_⟩)
        · rw [if_pos g] at ht
          exact ht
        · rw [if_neg g] at ht
          exact ht
      rw [nI_clamp (n := i) (by omega), v5 a' ha']
      refine br_c (fun g => mid _ ?_) (fun g => ⟨pk_in i 8 v3, mid _ ?_⟩)
      · rw [if_pos g] at t
        exact t
      · rw [if_neg g] at t
        exact t
    · have t := hw (f, a) (la_V_f ha z)
      dsimp only at t
      rw [la_ls, la_mo, la_su, if_neg z, if_neg z, if_neg z] at t
      exact t
theorem la_insert {post : Int32 → St1 → Prop} {c v : Nat} {R : Nat → Nat} (hc : c < 480) (hv : v < 1000) (h : la_I c R a18)
    (H0 : (∃ j, j < c ∧ R j = v) → post (nI c) (dc, pc, ln, sh, nd, ft, fs, fr, a1, a2, a3, a4, a5, a6, a7, a8, a9, a10, a11, a12, a13, a14, a15, a16, a17, a18, a19, a20))
    (H1 : (∀ j, j < c → ¬ R j = v) → ∀ R' a, la_I (c + 1) R' a → (∀ x, (∃ j, j < c + 1 ∧ R' j = x) ↔ (∃ j, j < c ∧ R j = x) ∨ x = v) → post (nI (c + 1)) (dc, pc, ln, sh, nd, ft, fs, fr, a1, a2, a3, a4, a5, a6, a7, a8, a9, a10, a11, a12, a13, a14, a15, a16, a17, a, a19, a20)) : wpX_insert post (dc, pc, ln, sh, nd, ft, fs, fr, a1, a2, a3, a4, a5, a6, a7, a8, a9, a10, a11, a12, a13, a14, a15, a16, a17, a18, a19, a20) (nI c) (nI v) := by
  obtain ⟨hr, ho⟩ := h
  have shift : ∀ k, k ≤ c → (∀ j, k ≤ j → j < c → v < R j) → (∀ j, j < k → R j < v) → ∃ fu, wX_insert_44 post (nI c) (nI v) (nI k) dc pc ln sh nd ft fs fr fu (nI c) a1 a2 a3 a4 a5 a6 a7 a8 a9 a10 a11 a12 a13 a14 a15 a16 a17 a18 a19 a20 := by
    intro k hk g1 g2
    refine loop_m (fun q (s : Nat × (Nat → Int32)) => wX_insert_44 post (nI c) (nI v) (nI k) dc pc ln sh nd ft fs fr q (nI s.1) a1 a2 a3 a4 a5 a6 a7 a8 a9 a10 a11 a12 a13 a14 a15 a16 a17 s.2 a19 a20) (fun s => k ≤ s.1 ∧ s.1 ≤ c ∧ (∀ t, t < s.1 → s.2 t = a18 t) ∧ (∀ t, s.1 < t → t ≤ c → s.2 t = a18 (t - 1))) (fun s => s.1) ?_ (c, a18) ⟨hk, Nat.le_refl c, fun t _ => rfl, fun t e1 e2 => absurd (show c < t from e1) (by omega)⟩
    rintro q ⟨j, a⟩ ⟨e1, e2, e3, e4⟩ hw
    dsimp only at e1 e2 e3 e4
    have hw2 := fun j' a' => hw (j', a')
    dsimp only at hw2
    refine pk_le j k (fun z => ⟨pk_in k 480 (by omega), nm_e ?_⟩) (fun z => ?_)
    · have ej : j = k := by omega
      subst ej
      rw [nI_clamp (n := j) (by omega), nI_1]
      refine H1 (fun t ht => ?_) (fun t => if t < j then R t else if t = j then v else R (t - 1)) _ ⟨fun t ht => ?_, fun t t' h1 h2 => ?_⟩ (fun x => ⟨?_, ?_⟩)
      · rcases Nat.lt_or_ge t j with y | y
        · have := g2 t y
          omega
        · have := g1 t y ht
          omega
      · dsimp only
        by_cases y : t < j
        · rw [if_pos y, pk_un (by omega), e3 t y]
          exact hr t (by omega)
        · by_cases y' : t = j
          · rw [if_neg y, if_pos y', y', pk_us]
            exact ⟨rfl, hv⟩
          · rw [if_neg y, if_neg y', pk_un y', e4 t (by omega) (by omega)]
            exact hr (t - 1) (by omega)
      · dsimp only
        by_cases y : t < j
        · rw [if_pos y]
          by_cases x : t' < j
          · rw [if_pos x]
            exact ho t t' h1 (by omega)
          · by_cases x' : t' = j
            · rw [if_neg x, if_pos x']
              exact g2 t y
            · rw [if_neg x, if_neg x']
              exact ho t (t' - 1) (by omega) (by omega)
        · have x : ¬ t' < j := by omega
          have x' : ¬ t' = j := by omega
          rw [if_neg y, if_neg x, if_neg x']
          by_cases y' : t = j
          · rw [if_pos y']
            exact g1 (t' - 1) (by omega) (by omega)
          · rw [if_neg y']
            exact ho (t - 1) (t' - 1) (by omega) (by omega)
      · rintro ⟨t, ht, e⟩
        by_cases y : t < j
        · rw [if_pos y] at e
          exact Or.inl ⟨t, by omega, e⟩
        · by_cases y' : t = j
          · rw [if_neg y, if_pos y'] at e
            exact Or.inr e.symm
          · rw [if_neg y, if_neg y'] at e
            exact Or.inl ⟨t - 1, by omega, e⟩
      · rintro (⟨t, ht, e⟩ | e)
        · by_cases y : t < j
          · exact ⟨t, by omega, by rw [if_pos y]; exact e⟩
          · exact ⟨t + 1, by omega, by rw [if_neg (by omega), if_neg (by omega)]; exact e⟩
        · exact ⟨j, by omega, by rw [if_neg (by omega), if_pos rfl]; exact e.symm⟩
    · have em : nI j - 1 = nI (j - 1) := pk_sub (a := j) (b := 1) (by omega)
      refine ⟨pk_in (j - 1) 480 (by omega) em, pk_in j 480 (by omega), nm_e (nm_r (sb_m1 (by omega)) (hw2 (j - 1) _ ⟨by omega, by omega, ?_, ?_⟩ (by omega)))⟩
      · intro t ht
        dsimp only
        rw [nI_clamp (n := j) (by omega), pk_un (by omega)]
        exact e3 t (by omega)
      · intro t h1 h2
        dsimp only
        rw [em, nI_clamp (n := j) (by omega), nI_clamp (n := j - 1) (by omega)]
        by_cases y : t = j
        · rw [y, pk_us]
          exact e3 (j - 1) (by omega)
        · rw [pk_un y]
          exact e4 t (by omega) h2
  have mid : ∀ k, k ≤ c → (∀ j, k ≤ j → j < c → v ≤ R j) → (∀ j, j < k → R j < v) → wX_insert_24 post (nI c) (nI v) (nI k) dc pc ln sh nd ft fs fr a1 a2 a3 a4 a5 a6 a7 a8 a9 a10 a11 a12 a13 a14 a15 a16 a17 a18 a19 a20 := by
    intro k hk g1 g2
    unfold wX_insert_24
    refine pk_le c k (fun z => shift k hk (fun j y1 y2 => absurd y2 (by omega)) g2) (fun z => ⟨pk_in k 480 (by omega), ?_⟩)
    have hk' := hr k z
    rw [nI_clamp (n := k) (by omega), hk'.1]
    refine pk_eq (R k) v (fun y => H0 ⟨k, z, y⟩) (fun y => shift k hk (fun j y1 y2 => ?_) g2)
    have := g1 k (Nat.le_refl k) z
    by_cases e : k = j
    · rw [← e]
      omega
    · have := ho k j (by omega) y2
      omega
  unfold wpX_insert
  refine loop_m (fun q (k : Nat) => wX_insert_2 post (nI c) (nI v) dc pc ln sh nd ft fs fr a1 a2 a3 a4 a5 a6 a7 a8 a9 a10 a11 a12 a13 a14 a15 a16 a17 a18 a19 a20 q (nI k)) (fun k => k ≤ c ∧ ∀ j, k ≤ j → j < c → v ≤ R j) (fun k => k) ?_ c ⟨Nat.le_refl c, fun j y1 y2 => absurd y2 (by omega)⟩
  rintro q k ⟨e1, e2⟩ hw
  refine pk_le k 0 (fun z => mid k e1 e2 (fun j hj => absurd hj (by omega))) (fun z => ?_)
  have em : nI k - 1 = nI (k - 1) := pk_sub (a := k) (b := 1) (by omega)
  have hk' := hr (k - 1) (by omega)
  refine ⟨pk_in (k - 1) 480 (by omega) em, ?_⟩
  rw [em, nI_clamp (n := k - 1) (by omega), hk'.1]
  refine pk_lt (R (k - 1)) v (fun y => mid k e1 e2 (fun j hj => ?_)) (fun y => nm_r (sb_m1 (by omega)) (hw (k - 1) ⟨by omega, fun j y1 y2 => ?_⟩ (by omega)))
  · by_cases e : j = k - 1
    · rw [e]
      exact y
    · have := ho j (k - 1) (by omega) (by omega)
      omega
  · by_cases e : j = k - 1
    · rw [e]
      exact y
    · exact e2 j (by omega) y2
theorem la_differentIn {post : Int32 → St1 → Prop} {s i : Nat} (h : la_O n m T S B Q p e a3 a4 a5 a6 a7 a8 a9 a11) (hs : s < m) (hi : i < (Q s).length) (hb : la_g (Q s) i = 1000)
    (H : ∀ f a b, post (nI (la_df S B s i n)) (dc, pc, nI n, sh, nd, ft, fs, f, a1, a2, a3, a4, a5, a6, a7, a8, a9, a10, a11, a12, a13, a14, a15, a16, a, b, a19, a20)) : wpX_differentIn post (dc, pc, nI n, sh, nd, ft, fs, fr, a1, a2, a3, a4, a5, a6, a7, a8, a9, a10, a11, a12, a13, a14, a15, a16, a17, a18, a19, a20) (nI s) (nI i) := by
  have hn := la_O_n h
  have hm := la_O_m h
  have hq8 : (Q s).length ≤ 8 := (la_O_Q h _ hs).2.1
  unfold wpX_differentIn
  refine la_clear (fun a0 ha0 => ?_)
  refine pk_loop (fun q l (t : Int32 × (Nat → Int32) × (Nat → Int32)) => wX_differentIn_9 post (nI s) (nI i) q (nI (la_df S B s i l)) (nI l) dc pc (nI n) sh nd ft fs t.1 a1 a2 a3 a4 a5 a6 a7 a8 a9 a10 a11 a12 a13 a14 a15 a16 t.2.1 t.2.2 a19 a20) (fun l t => la_V S B (Q s) s l t.2.1 ∧ ∃ R, la_I (la_df S B s i l) R t.2.2 ∧ ∀ x, (∃ j, j < la_df S B s i l ∧ R j = x) ↔ ¬ la_new S B s i l (x + 1000)) n 0 (fr, a0, a18) (by omega) ⟨la_V_0 hq8 ha0, fun _ => 0, ⟨fun j hj => absurd (show j < 0 from hj) (by omega), fun j k _ hk => absurd (show k < 0 from hk) (by omega)⟩, fun x => ⟨?_, ?_⟩⟩ ?_ ?_
  · rintro ⟨j, hj, _⟩
    exact absurd (show j < 0 from hj) (by omega)
  · intro z
    exact absurd (fun o ho => absurd ho (by omega)) z
  · rintro q ⟨f, a, b⟩ ha
    exact pk_le n n (fun _ => H f a b) (fun z => absurd z (by omega))
  · rintro q l ⟨f, a, b⟩ hl ⟨ha, R, hR, hx⟩ hw
    dsimp only at ha hR hx
    have hsl := la_O_sm h hl
    have hdf := la_df_le S B s i l
    refine pk_le n l (fun z => absurd z (by omega)) (fun _ => ⟨pk_in l 60 (by omega), ?_⟩)
    rw [nI_clamp (n := l) (by omega), la_O_s h hl]
    refine pk_eq (S l) s (fun z => ?_) (fun z => nm_r (nI_1 l) ?_)
    · obtain ⟨v1, v2, v3, v4, v5⟩ := la_a17 h hl z hi hb
      refine la_addLine h hl z ha (fun f' a' ha' => ⟨pk_in i 8 v3, ?_⟩)
      rw [nI_clamp (n := i) (by omega), v5 a' ha', v4]
      have hx' := hx (la_g (B l) i - 1000)
      rw [show la_g (B l) i - 1000 + 1000 = la_g (B l) i by omega] at hx'
      refine la_insert (R := R) (by omega) (by omega) hR (fun g => ?_) (fun g R' b' hR' hx2 => ?_)
      · have hd : la_df S B s i (l + 1) = la_df S B s i l := la_df_f (fun y => hx'.mp g y.2)
        have t := hw (f', a', b) ⟨ha', R, ?_, fun x => ?_⟩
        · dsimp only at t
          rw [hd] at t
          exact nm_r (nI_1 l) t
        · rw [hd]
          exact hR
        · rw [hd, hx x, la_new_s]
          constructor
          · intro y y'
            exact y y'.1
          · intro y y'
            refine y ⟨y', fun _ e => ?_⟩
            exact hx'.mp g (e ▸ y')
      · have hnw : la_new S B s i l (la_g (B l) i) := by
          rcases Classical.em (la_new S B s i l (la_g (B l) i)) with y | y
          · exact y
          · obtain ⟨j, j1, j2⟩ := hx'.mpr y
            exact absurd j2 (g j j1)
        have hd : la_df S B s i (l + 1) = la_df S B s i l + 1 := la_df_t ⟨z, hnw⟩
        have t := hw (f', a', b') ⟨ha', R', ?_, fun x => ?_⟩
        · dsimp only at t
          rw [hd] at t
          exact nm_r (nI_1 l) t
        · rw [hd]
          exact hR'
        · rw [hd, hx2 x, hx x, la_new_s]
          constructor
          · rintro (y | y) y'
            · exact y y'.1
            · exact y'.2 z (by omega)
          · intro y
            by_cases e : x = la_g (B l) i - 1000
            · exact Or.inr e
            · exact Or.inl (fun y' => y ⟨y', fun _ e' => e (by omega)⟩)
    · have hd : la_df S B s i (l + 1) = la_df S B s i l := la_df_f (fun y => z y.1)
      have t := hw (f, a, b) ⟨la_V_f ha z, R, ?_, fun x => ?_⟩
      · dsimp only at t
        rw [hd] at t
        exact t
      · rw [hd]
        exact hR
      · rw [hd, hx x, la_new_s]
        constructor
        · intro y y'
          exact y y'.1
        · intro y y'
          exact y ⟨y', fun e => absurd e z⟩
/-- what column answers -/
noncomputable def la_cl (S : Nat → Nat) (B : Nat → List Nat) (l i n : Nat) (w : Int32) : Int32 := if la_g (B l) i < 1000 then -2 else if w = 3 then nI (la_df S B (S l) i n) else la_rs S B (S l) i n w
theorem la_column {post : Int32 → St1 → Prop} {l i w : Nat} (h : la_O n m T S B Q p e a3 a4 a5 a6 a7 a8 a9 a11) (hl : l < n) (hi : i < (B l).length) (hw : w < 4)
    (H : ∀ f a b, post (la_cl S B l i n (nI w)) (dc, pc, nI n, sh, nd, ft, fs, f, a1, a2, a3, a4, a5, a6, a7, a8, a9, a10, a11, a12, a13, a14, a15, a16, a, b, a19, a20)) : wpX_column post (dc, pc, nI n, sh, nd, ft, fs, fr, a1, a2, a3, a4, a5, a6, a7, a8, a9, a10, a11, a12, a13, a14, a15, a16, a17, a18, a19, a20) (nI l) (nI i) (nI w) := by
  have hn := la_O_n h
  have hm := la_O_m h
  have hsm := la_O_sm h hl
  have h8 := la_O_8 h hl
  unfold wpX_column
  refine la_isLine hn hl (br_f (by decide) (br_f (nI_pos (by omega)) (br_t (nI_le (b := 3) (by omega) (by omega)) ⟨pk_in l 60 (by omega), nm_r (e' := nI (S l)) (by rw [nI_clamp (by omega)]; exact la_O_s h hl) (br_f (nI_pos (by omega)) ⟨pk_in (S l) 60 (by omega), ?_⟩)⟩)))
  rw [la_8, nI_clamp (n := S l) (by omega), nI_clamp (n := 8 * S l + i) (by omega), la_O_7 h hl, la_O_8i h hl hi]
  refine pk_le (B l).length i (fun z => absurd z (by omega)) (fun _ => ⟨pk_in (8 * S l + i) 480 (by omega), ?_⟩)
  by_cases c : la_g (B l) i < 1000
  · refine br_f (by rw [la_bl_w c]; exact la_k1000 c) ?_
    have t := H fr a17 a18
    unfold la_cl at t
    rw [if_pos c] at t
    exact t
  · have c' : 1000 ≤ la_g (B l) i := by omega
    have hi' : i < (Q (S l)).length := by
      rw [la_O_ql h hl]
      exact hi
    have hb := (la_O_1 h hl hi).mpr c'
    refine br_t (by rw [la_bl_n c']; rfl) ?_
    refine pk_eq w 3 (fun z => ?_) (fun z => ?_)
    · refine la_differentIn h hsm hi' hb (fun f a b => ?_)
      have t := H f a b
      unfold la_cl at t
      rw [if_neg c, if_pos (by rw [z]; rfl)] at t
      exact t
    · refine la_totalIn h hsm hi' hb (fun f a => ?_)
      have t := H f a a18
      unfold la_cl at t
      have c3 : ¬ nI w = 3 := fun y => z (la_i1 (b := 3) (by omega) (by omega) y)
      rw [if_neg c, if_neg c3] at t
      exact t
end
end
section
/-! ===== the tree of shapes ===== -/
theorem la_C_new {k0 c y : Nat} {pa pp : Nat → List Nat} {a12 a13 a14 : Nat → Int32} (h : la_C k0 pa pp a12 a13 a14) (hc : c < k0) (hy : y < 2000) :
    la_C (k0 + 1) (la_u pa k0 (pa c ++ [y])) (la_u pp k0 (pa c)) (upd a12 k0 (nI y)) (upd (upd a13 k0 (-1)) c (nI k0)) (upd (upd a14 k0 (-1)) k0 (upd a13 k0 (-1) c)) := by
  obtain ⟨h0, h1, h2⟩ := h
  refine ⟨by omega, by rw [la_un (by omega)]; exact h1, fun k hk => ⟨?_, ?_, ?_⟩⟩
  · by_cases e : k = c
    · subst e
      refine ⟨k0, by rw [pk_us, la_x_n h0], by omega, fun _ => ?_⟩
      rw [la_us, la_un (by omega)]
    · by_cases e' : k = k0
      · subst e'
        exact ⟨0, by rw [pk_un e, pk_us]; rfl, by omega, fun z => absurd z (by omega)⟩
      · obtain ⟨j, j1, j2, j3⟩ := (h2 k (by omega)).1
        refine ⟨j, by rw [pk_un e, pk_un e', j1], by omega, fun z => ?_⟩
        rw [la_un (by omega), la_un e']
        exact j3 z
  · by_cases e' : k = k0
    · subst e'
      obtain ⟨j, j1, j2, j3⟩ := (h2 c hc).1
      refine ⟨j, by rw [pk_us, pk_un (by omega), j1], by omega, fun z => ⟨j2, ?_⟩⟩
      rw [la_un (by omega), la_us]
      exact j3 z
    · obtain ⟨j, j1, j2, j3⟩ := (h2 k (by omega)).2.1
      refine ⟨j, by rw [pk_un e', pk_un e', j1], j2, fun z => ⟨(j3 z).1, ?_⟩⟩
      rw [la_un (by omega), la_un e']
      exact (j3 z).2
  · intro z
    by_cases e' : k = k0
    · subst e'
      exact ⟨y, hy, pk_us, by rw [la_us, la_us]⟩
    · obtain ⟨x, x1, x2, x3⟩ := (h2 k (by omega)).2.2 z
      exact ⟨x, x1, by rw [pk_un e', x2], by rw [la_un e', la_un e', x3]⟩
theorem la_E_new {k0 m : Nat} {q : List Nat} {pa Q : Nat → List Nat} {a15 : Nat → Int32} (h : la_E k0 m pa Q a15) : la_E (k0 + 1) m (la_u pa k0 q) Q (upd a15 k0 (-1)) := by
  intro k hk
  by_cases e : k = k0
  · subst e
    exact Or.inl pk_us
  · rw [pk_un e, la_un e]
    exact h k (by omega)
/-- all that is kept of lines -/
def la_K (n m k0 e : Nat) (T S : Nat → Nat) (B Q : Nat → List Nat) (p : Nat → Nat → Nat) (pa pp : Nat → List Nat) (a3 a4 a5 a6 a7 a8 : Nat → Int32) (a9 : Nat → Int64) (a10 : Nat → Int32) (a11 : Nat → Int64) (a12 a13 a14 a15 : Nat → Int32) : Prop :=
  la_O n m T S B Q p e a3 a4 a5 a6 a7 a8 a9 a11 ∧ la_R n m S B Q a10 ∧ la_C k0 pa pp a12 a13 a14 ∧ la_E k0 m pa Q a15
def la_X (n : Nat) (T S : Nat → Nat) (B : Nat → List Nat) (sh nd : Int32) (a3 a4 a5 a6 a7 a8 : Nat → Int32) (a9 : Nat → Int64) (a10 : Nat → Int32) (a11 : Nat → Int64) (a12 a13 a14 a15 : Nat → Int32) : Prop :=
  ∃ (m k0 e : Nat) (Q : Nat → List Nat) (p : Nat → Nat → Nat) (pa pp : Nat → List Nat), sh = nI m ∧ nd = nI k0 ∧ m ≤ n ∧ k0 ≤ 1 + 8 * n ∧ la_K n m k0 e T S B Q p pa pp a3 a4 a5 a6 a7 a8 a9 a10 a11 a12 a13 a14 a15
/-- a new shape -/
theorem la_K_new {n m k0 e c : Nat} {T S : Nat → Nat} {B Q : Nat → List Nat} {p : Nat → Nat → Nat} {pa pp : Nat → List Nat} {q : List Nat} {a3 a4 a5 a6 a7 a8 a10 a12 a13 a14 a15 b8 b10 : Nat → Int32} {a9 a11 : Nat → Int64}
    (h : la_K n m k0 e T S B Q p pa pp a3 a4 a5 a6 a7 a8 a9 a10 a11 a12 a13 a14 a15) (hm : m < 60) (hq : q.length ≤ 8) (hc : c < k0) (hp : pa c = q)
    (h8 : ∀ i, i < q.length → b8 (8 * m + i) = nI (la_g q i)) (h10 : ∀ i, i < q.length → b10 (8 * m + i) = 0) (hk : ∀ t, t < 8 * m → b8 t = a8 t ∧ b10 t = a10 t) :
    la_K n (m + 1) k0 e T S B (la_u Q m q) p pa pp a3 a4 a5 a6 (upd a7 m (nI q.length)) b8 (vp_updL a9 m 0) b10 a11 a12 a13 a14 (upd a15 c (nI m)) := by
  obtain ⟨hO, hR, hC, hE⟩ := h
  have hQ := la_O_Q hO
  have hL := la_O_L hO
  have hZ := la_O_Z hO
  refine ⟨⟨la_O_n hO, by omega, la_O_T hO, fun s hs => ?_, fun l hl => ?_, la_O_N hO, fun s hs l hl => ?_, la_O_W hO⟩, fun s hs i hi h1 => ?_, hC, fun k hk' => ?_⟩
  · by_cases z : s = m
    · subst z
      rw [la_us, pk_us]
      exact ⟨rfl, hq, h8⟩
    · have t := hQ s (by omega)
      rw [la_un z, pk_un z]
      refine ⟨t.1, t.2.1, fun i hi => ?_⟩
      rw [(hk (8 * s + i) (by omega)).1]
      exact t.2.2 i hi
  · have t := hL l hl
    rw [la_un (by omega)]
    exact ⟨t.1, by omega, t.2.2⟩
  · by_cases z : s = m
    · subst z
      rw [pk_uLs, la_bt_0]
      exact (decide_eq_false (fun y => absurd (hL l y.1).2.1 (by omega))).symm
    · rw [pk_uLn z]
      exact hZ s (by omega) l hl
  · by_cases z : s = m
    · subst z
      rw [la_us] at hi
      rw [h10 i hi, la_P_no n (fun k hk2 y => absurd (hL k hk2).2.1 (by omega))]
      rfl
    · rw [la_un z] at hi h1
      have t := hQ s (by omega)
      rw [(hk (8 * s + i) (by omega)).2]
      exact hR s (by omega) i hi h1
  · by_cases z : k = c
    · subst z
      exact Or.inr ⟨m, by omega, pk_us, by rw [la_us, hp]⟩
    · rw [pk_un z]
      rcases hE k hk' with y | ⟨s, s1, s2, s3⟩
      · exact Or.inl y
      · exact Or.inr ⟨s, by omega, s2, by rw [la_un (by omega), s3]⟩
section
variable {dc pc ln sh nd ft fr : Int32} {fs : Int64} {a1 a2 a3 a4 a5 a6 a7 a8 a10 a12 a13 a14 a15 a16 a17 a18 a19 a20 : Nat → Int32} {a9 a11 : Nat → Int64}
variable {n m e : Nat} {T S : Nat → Nat} {B Q : Nat → List Nat} {p : Nat → Nat → Nat}
theorem la_newNode {post : Int32 → St1 → Prop} {k : Nat} {x : Int32} (hk : k < 484) (H : post (nI k) (dc, pc, ln, sh, nI (k + 1), ft, fs, fr, a1, a2, a3, a4, a5, a6, a7, a8, a9, a10, a11, upd a12 k x, upd a13 k (-1), upd a14 k (-1), upd a15 k (-1), a16, a17, a18, a19, a20)) : wpX_newNode post (dc, pc, ln, sh, nI k, ft, fs, fr, a1, a2, a3, a4, a5, a6, a7, a8, a9, a10, a11, a12, a13, a14, a15, a16, a17, a18, a19, a20) x := by
  unfold wpX_newNode
  refine ⟨pk_in k 484 hk, nm_e ⟨pk_in k 484 hk, nm_e ⟨pk_in k 484 hk, nm_e ⟨pk_in k 484 hk, nm_e (nm_r (nI_1 k) ?_)⟩⟩⟩⟩
  rw [nI_pred, nI_clamp (n := k) (by omega)]
  exact H
theorem la_stepTo {post : Int32 → St1 → Prop} {k0 c y : Nat} {pa pp : Nat → List Nat} (hk : k0 < 484) (hC : la_C k0 pa pp a12 a13 a14) (hE : la_E k0 m pa Q a15) (hc : c < k0) (hy : y < 2000)
    (H : ∀ k1 c' pa' pp' b12 b13 b14 b15, k0 ≤ k1 → k1 ≤ k0 + 1 → la_C k1 pa' pp' b12 b13 b14 → la_E k1 m pa' Q b15 → c' < k1 → pa' c' = pa c ++ [y] → post (nI c') (dc, pc, ln, sh, nI k1, ft, fs, fr, a1, a2, a3, a4, a5, a6, a7, a8, a9, a10, a11, b12, b13, b14, b15, a16, a17, a18, a19, a20)) : wpX_stepTo post (dc, pc, ln, sh, nI k0, ft, fs, fr, a1, a2, a3, a4, a5, a6, a7, a8, a9, a10, a11, a12, a13, a14, a15, a16, a17, a18, a19, a20) (nI c) (nI y) := by
  have fin : wX_stepTo_31 post (nI c) (nI y) (la_x 0) dc pc ln sh (nI k0) ft fs fr a1 a2 a3 a4 a5 a6 a7 a8 a9 a10 a11 a12 a13 a14 a15 a16 a17 a18 a19 a20 := by
    unfold wX_stepTo_31
    refine br_f (show ¬ 0 ≤ la_x 0 by decide) ?_
    refine la_newNode hk ⟨pk_in c 484 (by omega), pk_in k0 484 hk, nm_e ⟨pk_in c 484 (by omega), nm_e ?_⟩⟩
    rw [nI_clamp (n := c) (by omega), nI_clamp (n := k0) (by omega)]
    exact H (k0 + 1) k0 _ _ _ _ _ _ (by omega) (by omega) (la_C_new hC hc hy) (la_E_new hE) (by omega) la_us
  obtain ⟨j0, i1, i2, i3⟩ := (hC.2.2 c hc).1
  unfold wpX_stepTo
  refine ⟨pk_in c 484 (by omega), nm_r (e' := la_x j0) (by rw [nI_clamp (by omega)]; exact i1) ?_⟩
  refine loop_m (fun q (j : Nat) => wX_stepTo_7 post (nI c) (nI y) dc pc ln sh (nI k0) ft fs fr a1 a2 a3 a4 a5 a6 a7 a8 a9 a10 a11 a12 a13 a14 a15 a16 a17 a18 a19 a20 q (la_x j)) (fun j => j < k0 ∧ (0 < j → pp j = pa c)) (fun j => j) ?_ j0 ⟨i2, i3⟩
  rintro q j ⟨h1, h2⟩ hw
  rcases Nat.eq_zero_or_pos j with z | z
  · subst z
    exact br_t (show la_x 0 < 0 by decide) fin
  · show wX_stepTo_7 post (nI c) (nI y) dc pc ln sh (nI k0) ft fs fr a1 a2 a3 a4 a5 a6 a7 a8 a9 a10 a11 a12 a13 a14 a15 a16 a17 a18 a19 a20 (q + 1) (la_x j)
    rw [la_x_n z]
    refine br_f (nI_pos (by omega)) ⟨pk_in j 484 (by omega), ?_⟩
    obtain ⟨x, hx, e12, epa⟩ := (hC.2.2 j h1).2.2 z
    rw [nI_clamp (n := j) (by omega), e12]
    refine pk_eq x y (fun g => ?_) (fun g => ⟨pk_in j 484 (by omega), ?_⟩)
    · unfold wX_stepTo_31
      exact br_t (nI_pos' (by omega)) (H k0 j pa pp a12 a13 a14 a15 (by omega) (by omega) hC hE h1 (by rw [epa, h2 z, g]))
    · obtain ⟨j', e14, g1, g2⟩ := (hC.2.2 j h1).2.1
      have hj' : j' < j := by
        rcases Nat.eq_zero_or_pos j' with y' | y'
        · omega
        · exact (g2 y').1
      exact nm_r e14 (hw j' ⟨by omega, fun z' => (g2 z').2.trans (h2 z)⟩ hj')
theorem la_shape {post : Int32 → St1 → Prop} {k0 : Nat} {pa pp : Nat → List Nat} {D : List Nat} (hF : la_F D a1) (hK : la_K n m k0 e T S B Q p pa pp a3 a4 a5 a6 a7 a8 a9 a10 a11 a12 a13 a14 a15) (hk : k0 + 8 ≤ 484) (hm : m < 60)
    (H : ∀ m' k1 s Q' pa' pp' b7 b8 b9 b10 b12 b13 b14 b15, m' ≤ m + 1 → k1 ≤ k0 + 8 → s < m' → Q' s = D.map la_bl → la_K n m' k1 e T S B Q' p pa' pp' a3 a4 a5 a6 b7 b8 b9 b10 a11 b12 b13 b14 b15 → post (nI s) (nI D.length, pc, ln, nI m', nI k1, ft, fs, fr, a1, a2, a3, a4, a5, a6, b7, b8, b9, b10, a11, b12, b13, b14, b15, a16, a17, a18, a19, a20)) : wpX_shapeOfDraft post (nI D.length, pc, ln, nI m, nI k0, ft, fs, fr, a1, a2, a3, a4, a5, a6, a7, a8, a9, a10, a11, a12, a13, a14, a15, a16, a17, a18, a19, a20) := by
  obtain ⟨hO, hR, hC, hE⟩ := hK
  obtain ⟨f1, f2, f3⟩ := hF
  unfold wpX_shapeOfDraft
  refine pk_loop (fun q i (s : Nat × Nat × (Nat → Int32) × (Nat → Int32) × (Nat → Int32) × (Nat → Int32)) => wX_shapeOfDraft_4 post q (nI s.1) (nI i) (nI D.length) pc ln (nI m) (nI s.2.1) ft fs fr a1 a2 a3 a4 a5 a6 a7 a8 a9 a10 a11 s.2.2.1 s.2.2.2.1 s.2.2.2.2.1 s.2.2.2.2.2 a16 a17 a18 a19 a20)
    (fun i s => ∃ pa' pp', s.2.1 ≤ k0 + i ∧ s.1 < s.2.1 ∧ pa' s.1 = (D.map la_bl).take i ∧ la_C s.2.1 pa' pp' s.2.2.1 s.2.2.2.1 s.2.2.2.2.1 ∧ la_E s.2.1 m pa' Q s.2.2.2.2.2) D.length 0 (0, k0, a12, a13, a14, a15) (by omega) ⟨pa, pp, Nat.le_refl _, hC.1, hC.2.1, hC, hE⟩ ?_ ?_
  · rintro q ⟨c, k1, b12, b13, b14, b15⟩ ⟨pa', pp', g1, g2, g3, g4, g5⟩
    dsimp only at g1 g2 g3 g4 g5 ⊢
    rw [List.take_of_length_le (by rw [List.length_map]; omega)] at g3
    refine pk_le D.length D.length (fun _ => ⟨pk_in c 484 (by omega), ?_⟩) (fun z => absurd z (by omega))
    rw [nI_clamp (n := c) (by omega)]
    rcases g5 c g2 with y | ⟨s, s1, s2, s3⟩
    · refine br_f (by rw [y]; decide) ⟨pk_in c 484 (by omega), nm_e ⟨pk_in m 60 hm, nm_e ⟨pk_in m 60 hm, nm_e ?_⟩⟩⟩
      rw [nI_clamp (n := m) (by omega)]
      refine pk_loop (fun q i (s : (Nat → Int32) × (Nat → Int32)) => wX_shapeOfDraft_79 post (nI c) (nI D.length) pc ln (nI m) (nI k1) ft fs fr q (nI i) a1 a2 a3 a4 a5 a6 (upd a7 m (nI D.length)) s.1 (vp_updL a9 m 0) s.2 a11 b12 b13 b14 (upd b15 c (nI m)) a16 a17 a18 a19 a20)
        (fun i s => (∀ j, j < i → s.1 (8 * m + j) = nI (la_g (D.map la_bl) j)) ∧ (∀ j, j < i → s.2 (8 * m + j) = 0) ∧ ∀ t, t < 8 * m → s.1 t = a8 t ∧ s.2 t = a10 t) D.length 0 (a8, a10) (by omega) ⟨fun j hj => absurd hj (by omega), fun j hj => absurd hj (by omega), fun t _ => ⟨rfl, rfl⟩⟩ ?_ ?_
      · rintro q ⟨b8, b10⟩ ⟨u1, u2, u3⟩
        dsimp only at u1 u2 u3 ⊢
        refine pk_le D.length D.length (fun _ => nm_r (nI_1 m) ⟨pk_in c 484 (by omega), ?_⟩) (fun z => absurd z (by omega))
        rw [nI_clamp (n := c) (by omega), pk_us]
        have t := la_K_new (q := D.map la_bl) ⟨hO, hR, g4, g5⟩ hm (by rw [List.length_map]; omega) g2 g3 (fun i hi => u1 i (by rw [List.length_map] at hi; exact hi)) (fun i hi => u2 i (by rw [List.length_map] at hi; exact hi)) u3
        rw [List.length_map] at t
        exact H (m + 1) k1 m _ _ _ _ _ _ _ _ _ _ _ (by omega) (by omega) (by omega) la_us t
      · rintro q i ⟨b8, b10⟩ hi ⟨u1, u2, u3⟩ hw
        dsimp only at u1 u2 u3 ⊢
        have hw2 := fun c8 c10 => hw (c8, c10)
        dsimp only at hw2
        refine pk_le D.length i (fun z => absurd z (by omega)) (fun _ => ⟨pk_in i 8 (by omega), ?_⟩)
        rw [nI_clamp (n := i) (by omega), f2 i hi, la_8]
        refine la_blanked (f3 _ (la_gm hi)) ⟨pk_in (8 * m + i) 480 (by omega), nm_e ⟨pk_in (8 * m + i) 480 (by omega), nm_e (nm_r (nI_1 i) (hw2 _ _ ⟨fun j hj => ?_, fun j hj => ?_, fun t ht => ?_⟩))⟩⟩
        · rw [nI_clamp (n := 8 * m + i) (by omega)]
          by_cases ej : j = i
          · rw [ej, pk_us, la_gmap hi]
          · rw [pk_un (by omega)]
            exact u1 j (by omega)
        · rw [nI_clamp (n := 8 * m + i) (by omega)]
          by_cases ej : j = i
          · rw [ej, pk_us]
          · rw [pk_un (by omega)]
            exact u2 j (by omega)
        · rw [nI_clamp (n := 8 * m + i) (by omega), pk_un (by omega), pk_un (by omega)]
          exact u3 t ht
    · rw [s2]
      exact br_t (nI_pos' (by omega)) ⟨pk_in c 484 (by omega), H m k1 s Q pa' pp' a7 a8 a9 a10 b12 b13 b14 b15 (by omega) (by omega) s1 (by rw [s3, g3]) ⟨hO, hR, g4, g5⟩⟩
  · rintro q i ⟨c, k1, b12, b13, b14, b15⟩ hi ⟨pa', pp', g1, g2, g3, g4, g5⟩ hw
    dsimp only at g1 g2 g3 g4 g5 ⊢
    refine pk_le D.length i (fun z => absurd z (by omega)) (fun _ => ⟨pk_in i 8 (by omega), ?_⟩)
    rw [nI_clamp (n := i) (by omega), f2 i hi]
    have hit := f3 _ (la_gm hi)
    refine la_blanked hit (la_stepTo (by omega) g4 g5 g2 (la_bl_lt hit) (fun k2 c' pa2 pp2 b12' b13' b14' b15' z1 z2 z3 z4 z5 z6 => nm_r (nI_1 i) (hw (c', k2, b12', b13', b14', b15') ⟨pa2, pp2, ?_, z5, ?_, z3, z4⟩)))
    · show k2 ≤ k0 + (i + 1)
      omega
    · show pa2 c' = (D.map la_bl).take (i + 1)
      rw [z6, g3, la_tk (by rw [List.length_map]; exact hi), la_gmap hi]
end
end
section
/-! ===== writing ===== -/
/-- what the loop over a draft D of shape s has done up to i: q the place in the bytes -/
def la_G (n m e s : Nat) (S : Nat → Nat) (B : Nat → List Nat) (D : List Nat) (a6 a10 : Nat → Int32) (a11 : Nat → Int64) (i : Nat) (pq : Nat → Nat) (b6 b10 : Nat → Int32) (b11 : Nat → Int64) : Prop :=
  pq 0 = e ∧ e ≤ pq i ∧ pq i ≤ e + 2 * i ∧ (∀ j, j < e → b6 j = a6 j) ∧
  (∀ j, j < i → pq (j + 1) ≤ pq i ∧ (1000 ≤ la_g D j → la_D b6 (pq j) (pq (j + 1)) (nI (la_g D j - 1000) - nI (la_P S B s j n))) ∧ (la_g D j < 1000 → pq (j + 1) = pq j)) ∧
  (∀ t, (t < 8 * s ∨ 8 * s + i ≤ t) → b10 t = a10 t) ∧ (∀ j, j < i → 1000 ≤ la_g D j → b10 (8 * s + j) = nI (la_g D j - 1000)) ∧
  (∀ w, w < 24 → ∀ l, l < 64 → la_bt (b11 w) l = (la_bt (a11 w) l || decide (l = n ∧ w ∈ D.take i)))
theorem la_G_w {n m e s i x : Nat} {S : Nat → Nat} {B : Nat → List Nat} {D : List Nat} {a6 a10 b6 b10 : Nat → Int32} {a11 b11 : Nat → Int64} {pq : Nat → Nat} (hn : n < 60)
    (h : la_G n m e s S B D a6 a10 a11 i pq b6 b10 b11) (hi : i < D.length) (hx : la_g D i = x) (hw : x < 24) :
    la_G n m e s S B D a6 a10 a11 (i + 1) (la_u pq (i + 1) (pq i)) b6 b10 (vp_updL b11 x (b11 x ||| ((1 : Int64) <<< ((nI n).toInt64 &&& 63)))) := by
  obtain ⟨h1, h2, h3, h4, h5, h6, h7, h8⟩ := h
  refine ⟨by rw [la_un (by omega)]; exact h1, by rw [la_us]; exact h2, by rw [la_us]; omega, h4, fun j hj => ?_, fun t ht => h6 t (by omega), fun j hj g => ?_, fun w hw' l hl => ?_⟩
  · rw [la_us]
    by_cases ej : j = i
    · subst ej
      rw [la_us, la_un (by omega)]
      exact ⟨Nat.le_refl _, fun g => absurd g (by omega), fun _ => rfl⟩
    · rw [la_un (by omega), la_un (by omega)]
      exact h5 j (by omega)
  · by_cases ej : j = i
    · subst ej
      omega
    · exact h7 j (by omega) g
  · by_cases ew : w = x
    · subst ew
      rw [pk_uLs, la_bt_or _ (by omega), h8 w hw' l hl, Bool.or_assoc]
      congr 1
      rw [← Bool.decide_or]
      apply decide_eq_decide.mpr
      rw [la_mt hi]
      constructor
      · rintro (y | y)
        · exact ⟨y.1, Or.inl y.2⟩
        · exact ⟨y, Or.inr hx.symm⟩
      · rintro ⟨y1, y2⟩
        exact Or.inr y1
    · rw [pk_uLn ew, h8 w hw' l hl]
      congr 1
      apply decide_eq_decide.mpr
      rw [la_mt hi]
      constructor
      · rintro ⟨y1, y2⟩
        exact ⟨y1, Or.inl y2⟩
      · rintro ⟨y1, y2 | y2⟩
        · exact ⟨y1, y2⟩
        · exact absurd (y2.trans hx) ew
theorem la_G_n {n m e s i x q : Nat} {S : Nat → Nat} {B : Nat → List Nat} {D : List Nat} {a6 a10 b6 b10 b6' : Nat → Int32} {a11 b11 : Nat → Int64} {pq : Nat → Nat}
    (h : la_G n m e s S B D a6 a10 a11 i pq b6 b10 b11) (hi : i < D.length) (hx : la_g D i = x) (h1000 : 1000 ≤ x)
    (q1 : pq i < q) (q2 : q ≤ pq i + 2) (q3 : ∀ j, j < pq i → b6' j = b6 j) (q4 : la_D b6' (pq i) q (nI (x - 1000) - nI (la_P S B s i n))) :
    la_G n m e s S B D a6 a10 a11 (i + 1) (la_u pq (i + 1) q) b6' (upd b10 (8 * s + i) (nI (x - 1000))) b11 := by
  obtain ⟨h1, h2, h3, h4, h5, h6, h7, h8⟩ := h
  refine ⟨by rw [la_un (by omega)]; exact h1, by rw [la_us]; omega, by rw [la_us]; omega, fun j hj => by rw [q3 j (by omega)]; exact h4 j hj, fun j hj => ?_, fun t ht => ?_, fun j hj g => ?_, fun w hw' l hl => ?_⟩
  · rw [la_us]
    by_cases ej : j = i
    · subst ej
      rw [la_us, la_un (by omega), hx]
      exact ⟨Nat.le_refl _, fun _ => q4, fun g => absurd g (by omega)⟩
    · have t := h5 j (by omega)
      rw [la_un (by omega), la_un (by omega)]
      exact ⟨by omega, fun g => la_D_k (t.2.1 g) (fun k hk => q3 k (by omega)), t.2.2⟩
  · rw [pk_un (by omega)]
    exact h6 t (by omega)
  · by_cases ej : j = i
    · subst ej
      rw [pk_us, hx]
    · rw [pk_un (by omega)]
      exact h7 j (by omega) g
  · rw [h8 w hw' l hl]
    congr 1
    apply decide_eq_decide.mpr
    rw [la_mt hi]
    constructor
    · rintro ⟨y1, y2⟩
      exact ⟨y1, Or.inl y2⟩
    · rintro ⟨y1, y2 | y2⟩
      · exact ⟨y1, y2⟩
      · omega
/-- a line more -/
theorem la_K_add {n m k0 e s t : Nat} {T S : Nat → Nat} {B Q : Nat → List Nat} {p : Nat → Nat → Nat} {pa pp : Nat → List Nat} {D : List Nat} {pq : Nat → Nat} {a1 a3 a4 a5 a6 a7 a8 a10 a12 a13 a14 a15 b6 b10 : Nat → Int32} {a9 a11 b11 : Nat → Int64}
    (h : la_K n m k0 e T S B Q p pa pp a3 a4 a5 a6 a7 a8 a9 a10 a11 a12 a13 a14 a15) (hn : n < 60) (hs : s < m) (hq : Q s = D.map la_bl) (hF : la_F D a1) (hD : 0 < D.length) (ht : t ≤ 1000) (hts : ∀ l, l < n → T l ≤ t)
    (hG : la_G n m e s S B D a6 a10 a11 D.length pq b6 b10 b11) :
    la_K (n + 1) m k0 (pq D.length) (la_u T n t) (la_u S n s) (la_u B n D) Q (la_u p n pq) pa pp (upd a3 n (nI t)) (upd a4 n (nI s)) (upd a5 (n + 1) (nI (pq D.length))) b6 a7 a8 (vp_updL a9 s (a9 s ||| ((1 : Int64) <<< ((nI n).toInt64 &&& 63)))) b10 b11 a12 a13 a14 a15 := by
  obtain ⟨hO, hR, hC, hE⟩ := h
  obtain ⟨f1, f2, f3⟩ := hF
  obtain ⟨h1, h2, h3, h4, h5, h6, h7, h8⟩ := hG
  rw [List.take_length] at h8
  have hT := la_O_T hO
  have hQ := la_O_Q hO
  have hL := la_O_L hO
  have hN := la_O_N hO
  have hZ := la_O_Z hO
  have hW := la_O_W hO
  have hPc : ∀ s' i l, l ≤ n → la_P (la_u S n s) (la_u B n D) s' i l = la_P S B s' i l := fun s' i l hl => la_P_co l (fun k hk => ⟨la_un (by omega), la_un (by omega)⟩)
  refine ⟨⟨by omega, la_O_m hO, ⟨fun l hl => ?_, fun l k hl hk => ?_⟩, hQ, fun l hl => ?_, ⟨fun l hl => ?_, pk_us, ?_, fun l hl i hi => ?_⟩, fun s' hs' l hl => ?_, fun w hw l hl => ?_⟩, fun s' hs' i hi g => ?_, hC, hE⟩
  · by_cases z : l = n
    · subst z
      rw [pk_us, la_us]
      exact ⟨rfl, ht⟩
    · rw [pk_un z, la_un z]
      exact hT.1 l (by omega)
  · by_cases z : k = n
    · subst z
      by_cases y : l = k
      · subst y
        exact Nat.le_refl _
      · rw [la_us, la_un y]
        exact hts l (by omega)
    · rw [la_un z, la_un (by omega)]
      exact hT.2 l k hl (by omega)
  · by_cases z : l = n
    · subst z
      rw [pk_us, la_us, la_us]
      exact ⟨rfl, hs, hq, f3, hD⟩
    · rw [pk_un z, la_un z, la_un z]
      exact hL l (by omega)
  · rw [pk_un (by omega)]
    by_cases z : l = n
    · subst z
      rw [la_us, h1]
      exact hN.2.1
    · rw [la_un z]
      exact hN.1 l (by omega)
  · have := hN.2.2.1
    omega
  · by_cases z : l = n
    · subst z
      rw [la_us] at hi
      rw [la_us, la_us, la_us, hPc s i l (Nat.le_refl _)]
      exact h5 i hi
    · rw [la_un z] at hi
      have t := hN.2.2.2 l (by omega) i hi
      rw [la_un z, la_un z, la_un z, hPc (S l) i l (by omega)]
      exact ⟨by omega, fun g => la_D_k (t.2.1 g) (fun j hj => h4 j (by omega)), t.2.2⟩
  · by_cases z : s' = s
    · subst z
      rw [pk_uLs, la_bt_or _ (by omega), hZ s' hs l hl, ← Bool.decide_or]
      apply decide_eq_decide.mpr
      constructor
      · rintro (y | y)
        · exact ⟨by omega, by rw [la_un (by omega)]; exact y.2⟩
        · exact ⟨by omega, by rw [y, la_us]⟩
      · rintro ⟨y1, y2⟩
        by_cases c : l = n
        · exact Or.inr c
        · rw [la_un c] at y2
          exact Or.inl ⟨by omega, y2⟩
    · rw [pk_uLn z, hZ s' hs' l hl]
      apply decide_eq_decide.mpr
      constructor
      · rintro ⟨y1, y2⟩
        exact ⟨by omega, by rw [la_un (by omega)]; exact y2⟩
      · rintro ⟨y1, y2⟩
        by_cases c : l = n
        · rw [c, la_us] at y2
          exact absurd y2.symm z
        · rw [la_un c] at y2
          exact ⟨by omega, y2⟩
  · rw [h8 w hw l hl, hW w hw l hl, ← Bool.decide_or]
    apply decide_eq_decide.mpr
    constructor
    · rintro (y | y)
      · exact ⟨by omega, by rw [la_un (by omega)]; exact y.2⟩
      · exact ⟨by omega, by rw [y.1, la_us]; exact y.2⟩
    · rintro ⟨y1, y2⟩
      by_cases c : l = n
      · rw [c, la_us] at y2
        exact Or.inr ⟨c, y2⟩
      · rw [la_un c] at y2
        exact Or.inl ⟨by omega, y2⟩
  · by_cases z : s' = s
    · subst z
      have hi' : i < D.length := by
        rw [hq, List.length_map] at hi
        exact hi
      rw [hq, la_gmap hi'] at g
      have g' := (la_bl_1 (f3 _ (la_gm hi'))).mp g
      rw [la_P_t la_us, la_us, h7 i hi' g']
    · have c8 := (hQ s' hs').2.1
      rw [la_P_f (by rw [la_us]; exact fun y => z y.symm), hPc s' i n (Nat.le_refl _), h6 (8 * s' + i) (by omega)]
      exact hR s' hs' i hi g
section
variable {dc pc ln sh nd ft fr : Int32} {fs : Int64} {a1 a2 a3 a4 a5 a6 a7 a8 a10 a12 a13 a14 a15 a16 a17 a18 a19 a20 : Nat → Int32} {a9 a11 : Nat → Int64}
variable {n m e : Nat} {T S : Nat → Nat} {B Q : Nat → List Nat} {p : Nat → Nat → Nat}
theorem la_writeDraft {post : Int32 → St1 → Prop} {t : Nat} {D : List Nat} (hX : la_X n T S B sh nd a3 a4 a5 a6 a7 a8 a9 a10 a11 a12 a13 a14 a15) (hn : n < 60) (hF : la_F D a1) (hD : 0 < D.length) (ht : t ≤ 1000) (hts : ∀ l, l < n → T l ≤ t)
    (H : ∀ s sh' nd' b3 b4 b5 b6 b7 b8 b9 b10 b11 b12 b13 b14 b15, la_X (n + 1) (la_u T n t) (la_u S n s) (la_u B n D) sh' nd' b3 b4 b5 b6 b7 b8 b9 b10 b11 b12 b13 b14 b15 → post (nI n) (nI D.length, pc, nI (n + 1), sh', nd', 0, fs, fr, a1, a2, b3, b4, b5, b6, b7, b8, b9, b10, b11, b12, b13, b14, b15, a16, a17, a18, a19, a20)) : wpX_writeDraft post (nI D.length, pc, nI n, sh, nd, ft, fs, fr, a1, a2, a3, a4, a5, a6, a7, a8, a9, a10, a11, a12, a13, a14, a15, a16, a17, a18, a19, a20) (nI t) := by
  obtain ⟨m, k0, e, Q, p, pa, pp, rfl, rfl, hm, hk, hK⟩ := hX
  have hF' := hF
  obtain ⟨f1, f2, f3⟩ := hF'
  unfold wpX_writeDraft
  refine la_shape hF hK (by omega) (by omega) (fun m' k1 s Q' pa' pp' b7 b8 b9 b10 b12 b13 b14 b15 z1 z2 z3 z4 z5 => ?_)
  have hO := z5.1
  have hN := la_O_N hO
  have hm' := la_O_m hO
  have hL := la_O_L hO
  refine ⟨pk_in n 61 (by omega), nm_r (e' := nI e) (by rw [nI_clamp (by omega)]; exact hN.2.1) ?_⟩
  refine pk_loop (fun q i (s' : Nat × (Nat → Int32) × (Nat → Int32) × (Nat → Int64)) => wX_writeDraft_21 post (nI t) (nI n) (nI s) q (nI s'.1) (nI i) (nI D.length) pc (nI n) (nI m') (nI k1) ft fs fr a1 a2 a3 a4 a5 s'.2.1 b7 b8 b9 s'.2.2.1 s'.2.2.2 b12 b13 b14 b15 a16 a17 a18 a19 a20)
    (fun i s' => ∃ pq, s'.1 = pq i ∧ la_G n m' e s S B D a6 b10 a11 i pq s'.2.1 s'.2.2.1 s'.2.2.2) D.length 0 (e, a6, b10, a11) (by omega) ⟨fun _ => e, rfl, rfl, Nat.le_refl _, Nat.le_refl _, fun _ _ => rfl, fun j hj => absurd hj (by omega), fun _ _ => rfl, fun j hj => absurd hj (by omega), fun w hw l hl => by rw [List.take_zero]; simp⟩ ?_ ?_
  · rintro q ⟨ap, c6, c10, c11⟩ ⟨pq, g1, g2⟩
    dsimp only at g1 g2 ⊢
    subst g1
    refine pk_le D.length D.length (fun _ => ⟨pk_in (n + 1) 61 (by omega) (nI_1 n), nm_e ⟨pk_in n 60 (by omega), nm_e ⟨pk_in n 60 (by omega), nm_e ⟨pk_in s 60 (by omega), pk_in s 60 (by omega), nm_e (nm_r (nI_1 n) ?_)⟩⟩⟩⟩) (fun z => absurd z (by omega))
    rw [nI_1, nI_clamp (n := n) (by omega), nI_clamp (n := n + 1) (by omega), nI_clamp (n := s) (by omega)]
    exact H s _ _ _ _ _ _ _ _ _ _ _ _ _ _ _ ⟨m', k1, _, Q', _, pa', pp', rfl, rfl, by omega, by omega, la_K_add z5 hn z3 z4 hF hD ht hts g2⟩
  · rintro q i ⟨ap, c6, c10, c11⟩ hi ⟨pq, g1, g2⟩ hw
    dsimp only at g1 g2 ⊢
    subst g1
    have hw2 := fun c1 c2 c3 c4 => hw (c1, c2, c3, c4)
    dsimp only at hw2
    have hit := f3 _ (la_gm hi)
    have hil := la_it_lt hit
    refine pk_le D.length i (fun z => absurd z (by omega)) (fun _ => ⟨pk_in i 8 (by omega), ?_⟩)
    rw [nI_clamp (n := i) (by omega), f2 i hi]
    by_cases c : 1000 ≤ la_g D i
    · refine la_isNumber_t c hil (br_f (by decide) (nm_r (la_8 s i) ⟨pk_in i 8 (by omega), pk_in (8 * s + i) 480 (by omega), ?_⟩))
      have hb10 : c10 (8 * s + i) = nI (la_P S B s i n) := by
        rw [g2.2.2.2.2.2.1 (8 * s + i) (by omega)]
        exact z5.2.1 s z3 i (by rw [z4, List.length_map]; exact hi) (by rw [z4, la_gmap hi, la_bl_n c])
      have hx : nI (la_g D i) - 1000 = nI (la_g D i - 1000) := pk_sub (a := la_g D i) (b := 1000) c
      have hP : la_P S B s i n < 1000 := la_P_lt n (fun k hk => (hL k hk).2.2.2.1)
      have he := hN.2.2.1
      have hp2 := g2.2.2.1
      rw [nI_clamp (n := 8 * s + i) (by omega), hb10, hx]
      refine la_bring (a := la_g D i - 1000) (b := la_P S B s i n) (by omega) hP (by omega) (fun q' b6' y1 y2 y3 y4 => ⟨pk_in i 8 (by omega), pk_in (8 * s + i) 480 (by omega), nm_e (nm_r (nI_1 i) (hw2 q' b6' _ c11 ⟨la_u pq (i + 1) q', la_us.symm, ?_⟩))⟩)
      rw [f2 i hi, hx]
      exact la_G_n g2 hi rfl c y1 y2 y3 y4
    · unfold la_it at hit
      have hw24 : la_g D i < 24 := by omega
      refine la_isNumber_f (by omega) (br_t rfl ⟨pk_in i 8 (by omega), pk_in (la_g D i) 24 hw24, pk_in (la_g D i) 24 hw24, nm_e (nm_r (nI_1 i) (hw2 (pq i) c6 c10 _ ⟨la_u pq (i + 1) (pq i), la_us.symm, ?_⟩))⟩)
      rw [nI_clamp (n := la_g D i) (by omega)]
      exact la_G_w hn g2 hi rfl hw24
theorem la_write {post : Int32 → St1 → Prop} {t : Nat} {D : List Nat} (hX : la_X n T S B sh nd a3 a4 a5 a6 a7 a8 a9 a10 a11 a12 a13 a14 a15) (hn : n < 60) (hF : la_F D a1) (hD : 0 < D.length) (ht : t ≤ 1000) (hts : ∀ l, l < n → T l ≤ t)
    (H : ∀ s sh' nd' b3 b4 b5 b6 b7 b8 b9 b10 b11 b12 b13 b14 b15, la_X (n + 1) (la_u T n t) (la_u S n s) (la_u B n D) sh' nd' b3 b4 b5 b6 b7 b8 b9 b10 b11 b12 b13 b14 b15 → post (nI n) (0, pc, nI (n + 1), sh', nd', 0, fs, fr, a1, a2, b3, b4, b5, b6, b7, b8, b9, b10, b11, b12, b13, b14, b15, a16, a17, a18, a19, a20)) : wpX_write post (nI D.length, pc, nI n, sh, nd, ft, fs, fr, a1, a2, a3, a4, a5, a6, a7, a8, a9, a10, a11, a12, a13, a14, a15, a16, a17, a18, a19, a20) (nI t) := by
  have hX' := hX
  obtain ⟨m, k0, e, Q, p, pa, pp, -, -, hm, hk, hK⟩ := hX'
  have h8 := hF.1
  have fin : wX_write_35 post (nI t) (nI D.length) pc (nI n) sh nd ft fs fr a1 a2 a3 a4 a5 a6 a7 a8 a9 a10 a11 a12 a13 a14 a15 a16 a17 a18 a19 a20 := by
    unfold wX_write_35
    refine br_f (nI_ne0 hD (by omega)) (br_t (nI_lt (b := 60) hn (by omega)) ?_)
    exact la_writeDraft hX hn hF hD ht hts (fun s sh' nd' b3 b4 b5 b6 b7 b8 b9 b10 b11 b12 b13 b14 b15 hx => H s sh' nd' b3 b4 b5 b6 b7 b8 b9 b10 b11 b12 b13 b14 b15 hx)
  unfold wpX_write
  refine br_f (nI_pos (by omega)) (br_f (nI_nlt (b := t) (a := 1000) ht (by omega)) (pk_le n 0 (fun _ => fin) (fun z => ?_)))
  have em : nI n - 1 = nI (n - 1) := pk_sub (a := n) (b := 1) (by omega)
  rw [em]
  refine ⟨pk_in (n - 1) 60 (by omega), ?_⟩
  rw [nI_clamp (n := n - 1) (by omega), la_O_t hK.1 (show n - 1 < n by omega)]
  exact br_t (nI_le (hts (n - 1) (by omega)) (by omega)) fin
theorem la_item {post : Int32 → St1 → Prop} {x : Nat} {D : List Nat} (hx : la_it x) (hF : la_F D a1) (hD : D.length < 8)
    (H : ∀ b1, la_F (D ++ [x]) b1 → post (nI (D.length + 1)) (nI (D.length + 1), pc, ln, sh, nd, ft, fs, fr, b1, a2, a3, a4, a5, a6, a7, a8, a9, a10, a11, a12, a13, a14, a15, a16, a17, a18, a19, a20)) : wpX_item post (nI D.length, pc, ln, sh, nd, ft, fs, fr, a1, a2, a3, a4, a5, a6, a7, a8, a9, a10, a11, a12, a13, a14, a15, a16, a17, a18, a19, a20) (nI x) := by
  obtain ⟨f1, f2, f3⟩ := hF
  unfold wpX_item
  refine la_isItem hx (br_f (by decide) (br_t (nI_lt (b := 8) hD (by omega)) ⟨pk_in D.length 8 hD, nm_e (nm_r (nI_1 _) (H _ ⟨?_, fun i hi => ?_, fun y hy => ?_⟩))⟩))
  · rw [List.length_append]
    exact hD
  · rw [nI_clamp (n := D.length) (by omega)]
    rw [List.length_append] at hi
    have hi' : i < D.length + 1 := hi
    by_cases z : i = D.length
    · rw [z, pk_us, la_gr]
    · rw [pk_un z, la_gl (by omega)]
      exact f2 i (by omega)
  · rcases List.mem_append.mp hy with z | z
    · exact f3 y z
    · rw [List.mem_singleton.mp z]
      exact hx
theorem la_empty {post : St1 → Prop} (T S : Nat → Nat) (B : Nat → List Nat)
    (H : ∀ sh' nd' b5 b11 b12 b13 b14 b15, la_X 0 T S B sh' nd' a3 a4 b5 a6 a7 a8 a9 a10 b11 b12 b13 b14 b15 → post (dc, pc, nI 0, sh', nd', 0, fs, fr, a1, a2, a3, a4, b5, a6, a7, a8, a9, a10, b11, b12, b13, b14, b15, a16, a17, a18, a19, a20)) : wpX_empty post (dc, pc, ln, sh, nd, ft, fs, fr, a1, a2, a3, a4, a5, a6, a7, a8, a9, a10, a11, a12, a13, a14, a15, a16, a17, a18, a19, a20) := by
  unfold wpX_empty
  refine nm_e (la_newNode (k := 0) (by omega) ?_)
  refine pk_loop (fun q i b => wX_empty_30 post dc pc (nI 0) (nI 0) (nI (0 + 1)) ft fs fr q (nI i) a1 a2 a3 a4 (upd a5 0 0) a6 a7 a8 a9 a10 b (upd a12 0 (-1)) (upd a13 0 (-1)) (upd a14 0 (-1)) (upd a15 0 (-1)) a16 a17 a18 a19 a20) (fun i b => ∀ w, w < i → b w = 0) 24 0 a11 (by omega) (fun w hw => absurd hw (by omega)) ?_ ?_
  · intro q b hb
    refine pk_le 24 24 (fun _ => H _ _ _ _ _ _ _ _ ?_) (fun z => absurd z (by omega))
    refine ⟨0, 1, 0, fun _ => [], fun _ _ => 0, fun _ => [], fun _ => [], rfl, rfl, by omega, by omega, ⟨by omega, by omega, ⟨fun l hl => absurd hl (by omega), fun l k _ hk => absurd hk (by omega)⟩, fun s hs => absurd hs (by omega), fun l hl => absurd hl (by omega), ⟨fun l hl => absurd hl (by omega), rfl, by omega, fun l hl => absurd hl (by omega)⟩, fun s hs => absurd hs (by omega), fun w hw l hl => ?_⟩, fun s hs => absurd hs (by omega), ⟨by omega, rfl, fun k hk => ?_⟩, fun k hk => ?_⟩
    · rw [hb w hw, la_bt_0]
      exact (decide_eq_false (fun z => absurd z.1 (by omega))).symm
    · have hk0 : k = 0 := by omega
      subst hk0
      exact ⟨⟨0, rfl, by omega, fun z => absurd z (by omega)⟩, ⟨0, rfl, by omega, fun z => absurd z (by omega)⟩, fun z => absurd z (by omega)⟩
    · have hk0 : k = 0 := by omega
      subst hk0
      exact Or.inl rfl
  · intro q i b hi hb hw
    refine pk_le 24 i (fun z => absurd z (by omega)) (fun _ => ⟨pk_in i 24 hi, nm_e (nm_r (nI_1 i) (hw _ (fun w hw' => ?_)))⟩)
    rw [nI_clamp (n := i) (by omega)]
    by_cases z : w = i
    · rw [z, pk_uLs]
    · rw [pk_uLn z]
      exact hb w (by omega)
end
end
section
/-! ===== expire ===== -/
theorem la_uu {α : Type} (f : Nat → α) (k : Nat) : la_u f k (f k) = f := by
  funext j
  by_cases z : j = k
  · rw [z, la_us]
  · rw [la_un z]
/-- the rest: what was read of the lines from g on, up to k -/
def la_J (g k : Nat) (T : Nat → Nat) (B : Nat → List Nat) (a18 a19 a20 : Nat → Int32) : Prop := ∀ j, j < k → a19 j = nI (B (g + j)).length ∧ a20 j = nI (T (g + j)) ∧ ∀ i, i < (B (g + j)).length → a18 (8 * j + i) = nI (la_g (B (g + j)) i)
section
variable {dc pc ln sh nd ft fr : Int32} {fs : Int64} {a1 a2 a3 a4 a5 a6 a7 a8 a10 a12 a13 a14 a15 a16 a17 a18 a19 a20 : Nat → Int32} {a9 a11 : Nat → Int64}
variable {n m e : Nat} {T S : Nat → Nat} {B Q : Nat → List Nat} {p : Nat → Nat → Nat}
theorem la_expire2 {post : Int32 → St1 → Prop} {g : Nat} (hg : g ≤ n) (hn : n ≤ 60) (h0 : ∀ l, l < n → 0 < (B l).length ∧ (B l).length ≤ 8 ∧ (∀ x, x ∈ B l → la_it x) ∧ T l ≤ 1000) (hs : ∀ l k, l ≤ k → k < n → T l ≤ T k) (hJ : la_J g (n - g) T B a18 a19 a20) (h17 : a17 0 = 0)
    (hX : la_X 0 (fun l => T (g + l)) S (fun l => B (g + l)) sh nd a3 a4 a5 a6 a7 a8 a9 a10 a11 a12 a13 a14 a15)
    (H : ∀ S' sh' nd' ft' b1 b3 b4 b5 b6 b7 b8 b9 b10 b11 b12 b13 b14 b15, la_X (n - g) (fun l => T (g + l)) S' (fun l => B (g + l)) sh' nd' b3 b4 b5 b6 b7 b8 b9 b10 b11 b12 b13 b14 b15 → post (nI g) (nI 0, pc, nI (n - g), sh', nd', ft', fs, fr, b1, a2, b3, b4, b5, b6, b7, b8, b9, b10, b11, b12, b13, b14, b15, a16, a17, a18, a19, a20)) :
    ∃ fu, wX_expire_131 post (nI g) (nI (n - g)) fu 0 dc pc (nI 0) sh nd ft fs fr a1 a2 a3 a4 a5 a6 a7 a8 a9 a10 a11 a12 a13 a14 a15 a16 a17 a18 a19 a20 := by
  refine pk_loop (fun q k (s : Int32 × Int32 × Int32 × Int32 × (Nat → Int32) × (Nat → Int32) × (Nat → Int32) × (Nat → Int32) × (Nat → Int32) × (Nat → Int32) × (Nat → Int32) × (Nat → Int64) × (Nat → Int32) × (Nat → Int64) × (Nat → Int32) × (Nat → Int32) × (Nat → Int32) × (Nat → Int32)) => wX_expire_131 post (nI g) (nI (n - g)) q (nI k) s.1 pc (nI k) s.2.1 s.2.2.1 s.2.2.2.1 fs fr s.2.2.2.2.1 a2 s.2.2.2.2.2.1 s.2.2.2.2.2.2.1 s.2.2.2.2.2.2.2.1 s.2.2.2.2.2.2.2.2.1 s.2.2.2.2.2.2.2.2.2.1 s.2.2.2.2.2.2.2.2.2.2.1 s.2.2.2.2.2.2.2.2.2.2.2.1 s.2.2.2.2.2.2.2.2.2.2.2.2.1 s.2.2.2.2.2.2.2.2.2.2.2.2.2.1 s.2.2.2.2.2.2.2.2.2.2.2.2.2.2.1 s.2.2.2.2.2.2.2.2.2.2.2.2.2.2.2.1 s.2.2.2.2.2.2.2.2.2.2.2.2.2.2.2.2.1 s.2.2.2.2.2.2.2.2.2.2.2.2.2.2.2.2.2 a16 a17 a18 a19 a20)
    (fun k s => ∃ S', la_X k (fun l => T (g + l)) S' (fun l => B (g + l)) s.2.1 s.2.2.1 s.2.2.2.2.2.1 s.2.2.2.2.2.2.1 s.2.2.2.2.2.2.2.1 s.2.2.2.2.2.2.2.2.1 s.2.2.2.2.2.2.2.2.2.1 s.2.2.2.2.2.2.2.2.2.2.1 s.2.2.2.2.2.2.2.2.2.2.2.1 s.2.2.2.2.2.2.2.2.2.2.2.2.1 s.2.2.2.2.2.2.2.2.2.2.2.2.2.1 s.2.2.2.2.2.2.2.2.2.2.2.2.2.2.1 s.2.2.2.2.2.2.2.2.2.2.2.2.2.2.2.1 s.2.2.2.2.2.2.2.2.2.2.2.2.2.2.2.2.1 s.2.2.2.2.2.2.2.2.2.2.2.2.2.2.2.2.2)
    (n - g) 0 (dc, sh, nd, ft, a1, a3, a4, a5, a6, a7, a8, a9, a10, a11, a12, a13, a14, a15) (by omega) ⟨S, hX⟩ ?_ ?_
  · rintro q ⟨b0, sh', nd', ft', b1, b3, b4, b5, b6, b7, b8, b9, b10, b11, b12, b13, b14, b15⟩ ⟨S', hx⟩
    dsimp only at hx ⊢
    refine pk_le (n - g) (n - g) (fun _ => ?_) (fun z => absurd z (by omega))
    unfold wpX_bringDraft
    refine nm_r (e' := nI 0) h17 ⟨1, pk_le 0 0 (fun _ => ?_) (fun z => absurd z (by omega))⟩
    exact H S' sh' nd' ft' b1 b3 b4 b5 b6 b7 b8 b9 b10 b11 b12 b13 b14 b15 hx
  · rintro q k ⟨b0, sh', nd', ft', b1, b3, b4, b5, b6, b7, b8, b9, b10, b11, b12, b13, b14, b15⟩ hk ⟨S', hx⟩ hw
    dsimp only at hx ⊢
    have hw2 := fun c0 c1 c2 c3 c4 c5 c6 c7 c8 c9 c10 c11 c12 c13 c14 c15 c16 c17 => hw (c0, c1, c2, c3, c4, c5, c6, c7, c8, c9, c10, c11, c12, c13, c14, c15, c16, c17)
    dsimp only at hw2
    obtain ⟨j1, j2, j3⟩ := hJ k hk
    obtain ⟨i1, i2, i3, i4⟩ := h0 (g + k) (by omega)
    refine pk_le (n - g) k (fun z => absurd z (by omega)) (fun _ => ⟨pk_in k 60 (by omega), nm_r (e' := nI (B (g + k)).length) (by rw [nI_clamp (by omega)]; exact j1) ?_⟩)
    refine pk_loop (fun q' i c1 => wX_expire_151 post (wX_expire_131 post (nI g) (nI (n - g)) q) (nI g) (nI (n - g)) (nI k) (nI (B (g + k)).length) pc (nI k) sh' nd' ft' fs fr q' (nI i) c1 a2 b3 b4 b5 b6 b7 b8 b9 b10 b11 b12 b13 b14 b15 a16 a17 a18 a19 a20) (fun i c1 => ∀ j, j < i → c1 j = nI (la_g (B (g + k)) j)) (B (g + k)).length 0 b1 (by omega) (fun j hj => absurd hj (by omega)) ?_ ?_
    · intro q' c1 hc
      refine pk_le (B (g + k)).length (B (g + k)).length (fun _ => ⟨pk_in k 60 (by omega), ?_⟩) (fun z => absurd z (by omega))
      rw [nI_clamp (n := k) (by omega), j2]
      refine la_writeDraft (D := B (g + k)) hx (by omega) ⟨i2, hc, i3⟩ i1 i4 (fun l hl => hs (g + l) (g + k) (by omega) (by omega)) (fun s sh2 nd2 c3 c4 c5 c6 c7 c8 c9 c10 c11 c12 c13 c14 c15 hx2 => nm_r (nI_1 k) (hw2 _ sh2 nd2 0 c1 c3 c4 c5 c6 c7 c8 c9 c10 c11 c12 c13 c14 c15 ⟨la_u S' k s, ?_⟩))
      rw [la_uu (fun l => T (g + l)) k, la_uu (fun l => B (g + l)) k] at hx2
      exact hx2
    · intro q' i c1 hi hc hw'
      refine pk_le (B (g + k)).length i (fun z => absurd z (by omega)) (fun _ => ?_)
      rw [la_8]
      refine ⟨pk_in (8 * k + i) 480 (by omega), pk_in i 8 (by omega), nm_e (nm_r (nI_1 i) (hw' _ (la_fill (f := fun j => nI (la_g (B (g + k)) j)) (nI_clamp (by omega)) hc ?_)))⟩
      rw [nI_clamp (n := 8 * k + i) (by omega)]
      exact j3 i hi
theorem la_expire {post : Int32 → St1 → Prop} {k : Nat} (hk : k < 2 ^ 31) (hX : la_X n T S B sh nd a3 a4 a5 a6 a7 a8 a9 a10 a11 a12 a13 a14 a15)
    (H : ∀ g S' sh' nd' ft' fr' b1 b3 b4 b5 b6 b7 b8 b9 b10 b11 b12 b13 b14 b15 b16 b17 b18 b19 b20, la_cu n T k g → la_X (n - g) (fun l => T (g + l)) S' (fun l => B (g + l)) sh' nd' b3 b4 b5 b6 b7 b8 b9 b10 b11 b12 b13 b14 b15 → post (nI g) (nI 0, pc, nI (n - g), sh', nd', ft', fs, fr', b1, a2, b3, b4, b5, b6, b7, b8, b9, b10, b11, b12, b13, b14, b15, b16, b17, b18, b19, b20)) : wpX_expire post (nI 0, pc, nI n, sh, nd, ft, fs, fr, a1, a2, a3, a4, a5, a6, a7, a8, a9, a10, a11, a12, a13, a14, a15, a16, a17, a18, a19, a20) (nI k) := by
  have hX' := hX
  obtain ⟨m, k0, e, Q, p, pa, pp, -, -, hm, hk0, hK⟩ := hX'
  have h := hK.1
  have hn := la_O_n h
  have hm60 := la_O_m h
  unfold wpX_expire
  refine la_countN hk h (fun g hg => ?_)
  have hgn := hg.1
  refine pk_eq g 0 (fun z => ?_) (fun z => nm_r (e' := nI (n - g)) (pk_sub hgn) ?_)
  · subst z
    have e1 : (fun l => T (0 + l)) = T := by
      funext l
      rw [Nat.zero_add]
    have e2 : (fun l => B (0 + l)) = B := by
      funext l
      rw [Nat.zero_add]
    exact H 0 S sh nd ft fr a1 a3 a4 a5 a6 a7 a8 a9 a10 a11 a12 a13 a14 a15 a16 a17 a18 a19 a20 hg (by rw [e1, e2]; exact hX)
  · refine pk_loop (fun q k' (s : Int32 × (Nat → Int32) × (Nat → Int32) × (Nat → Int32) × (Nat → Int32) × (Nat → Int32)) => wX_expire_22 post (nI g) (nI (n - g)) q (nI k') (nI 0) pc (nI n) sh nd ft fs s.1 a1 a2 a3 a4 a5 a6 a7 a8 a9 a10 a11 a12 a13 a14 a15 s.2.1 s.2.2.1 s.2.2.2.1 s.2.2.2.2.1 s.2.2.2.2.2)
      (fun k' s => la_J g k' T B s.2.2.2.1 s.2.2.2.2.1 s.2.2.2.2.2) (n - g) 0 (fr, a16, a17, a18, a19, a20) (by omega) (fun j hj => absurd hj (by omega)) ?_ ?_
    · rintro q ⟨f, b16, b17, b18, b19, b20⟩ hJ
      dsimp only at hJ ⊢
      refine pk_le (n - g) (n - g) (fun _ => ?_) (fun z => absurd z (by omega))
      unfold wpX_keepDraft
      refine nm_e ⟨1, pk_le 0 0 (fun _ => ?_) (fun z => absurd z (by omega))⟩
      refine la_empty (fun l => T (g + l)) S (fun l => B (g + l)) (fun sh' nd' b5 b11 b12 b13 b14 b15 hx => ?_)
      exact la_expire2 hgn hn (fun l hl => ⟨la_O_0 h hl, la_O_8 h hl, la_O_i h hl, la_O_tb h hl⟩) (fun l k h1 h2 => la_O_ts h h1 h2) hJ pk_us hx (fun S' sh2 nd2 ft2 c1 c3 c4 c5 c6 c7 c8 c9 c10 c11 c12 c13 c14 c15 hx2 => H g S' sh2 nd2 ft2 f c1 c3 c4 c5 c6 c7 c8 c9 c10 c11 c12 c13 c14 c15 b16 _ b18 b19 b20 hg hx2)
    · rintro q k' ⟨f, b16, b17, b18, b19, b20⟩ hk' hJ hw
      dsimp only at hJ ⊢
      have hw2 := fun c1 c2 c3 c4 c5 c6 => hw (c1, c2, c3, c4, c5, c6)
      dsimp only at hw2
      have hgk : g + k' < n := by omega
      have hsm := la_O_sm h hgk
      have h8 := la_O_8 h hgk
      refine pk_le (n - g) k' (fun z => absurd z (by omega)) (fun _ => ?_)
      rw [nI_add]
      refine la_readLine h hgk (fun f' c16 c17 hr => ⟨pk_in (g + k') 60 (by omega), ?_⟩)
      rw [nI_clamp (n := g + k') (by omega), la_O_s h hgk, nI_clamp (n := S (g + k')) (by omega), la_O_7 h hgk, la_O_t h hgk, nI_clamp (n := k') (by omega)]
      refine ⟨pk_in (S (g + k')) 60 (by omega), pk_in k' 60 (by omega), nm_e ⟨pk_in (g + k') 60 (by omega), pk_in k' 60 (by omega), nm_e ?_⟩⟩
      refine pk_loop (fun q' i c18 => wX_expire_76 post (wX_expire_22 post (nI g) (nI (n - g)) q) (nI g) (nI (n - g)) (nI k') (nI 0) pc (nI n) sh nd ft fs f' q' (nI i) a1 a2 a3 a4 a5 a6 a7 a8 a9 a10 a11 a12 a13 a14 a15 c16 c17 c18 (upd b19 k' (nI (B (g + k')).length)) (upd b20 k' (nI (T (g + k'))))) (fun i c18 => (∀ t, t < 8 * k' → c18 t = b18 t) ∧ ∀ j, j < i → c18 (8 * k' + j) = nI (la_g (B (g + k')) j)) (B (g + k')).length 0 b18 (by omega) ⟨fun _ _ => rfl, fun j hj => absurd hj (by omega)⟩ ?_ ?_
      · rintro q' c18 ⟨hc1, hc2⟩
        refine ⟨pk_in k' 60 (by omega), ?_⟩
        rw [nI_clamp (n := k') (by omega), pk_us]
        refine pk_le (B (g + k')).length (B (g + k')).length (fun _ => nm_r (nI_1 k') (hw2 f' c16 c17 c18 _ _ (fun j hj => ?_))) (fun z => absurd z (by omega))
        by_cases ej : j = k'
        · subst ej
          rw [pk_us, pk_us]
          exact ⟨rfl, rfl, hc2⟩
        · rw [pk_un ej, pk_un ej]
          obtain ⟨j1, j2, j3⟩ := hJ j (by omega)
          refine ⟨j1, j2, fun i hi => ?_⟩
          have := la_O_8 h (show g + j < n by omega)
          rw [hc1 (8 * j + i) (by omega)]
          exact j3 i hi
      · rintro q' i c18 hi ⟨hc1, hc2⟩ hw'
        refine ⟨pk_in k' 60 (by omega), ?_⟩
        rw [nI_clamp (n := k') (by omega), pk_us]
        refine pk_le (B (g + k')).length i (fun z => absurd z (by omega)) (fun _ => ?_)
        rw [la_8]
        refine ⟨pk_in i 8 (by omega), pk_in (8 * k' + i) 480 (by omega), nm_e (nm_r (nI_1 i) (hw' _ ⟨fun t ht => ?_, fun j hj => ?_⟩))⟩
        · rw [nI_clamp (n := 8 * k' + i) (by omega), pk_un (by omega)]
          exact hc1 t ht
        · rw [nI_clamp (n := 8 * k' + i) (by omega), nI_clamp (n := i) (by omega)]
          by_cases ej : j = i
          · rw [ej, pk_us]
            exact hr i hi
          · rw [pk_un (by omega)]
            exact hc2 j (by omega)
end
end
section
/-! ===== the law's helpers: cell, itemOf, fill ===== -/
def la_U (n : Nat) (T S : Nat → Nat) (B : Nat → List Nat) (u : St1) : Prop := match u with
  | (dc, pc, ln, sh, nd, ft, fs, fr, a1, a2, a3, a4, a5, a6, a7, a8, a9, a10, a11, a12, a13, a14, a15, a16, a17, a18, a19, a20) => dc = nI 0 ∧ ln = nI n ∧ la_X n T S B sh nd a3 a4 a5 a6 a7 a8 a9 a10 a11 a12 a13 a14 a15
theorem la_cell {post : Int32 → Prop} {L k : Nat} {xs : Nat → Int32} (hL : L ≤ 260) (hk : k < 1000) (H : ∀ r, post r) : wpL_cell post L xs () (nI k) :=
  pk_le L k (fun _ => H _) (fun z => ⟨pk_in k L z, H _⟩)
theorem la_itemOf {post : Int32 → Prop} (y : Int32) (H : ∀ x, la_it x → post (nI x)) : wpL_itemOf post () y := by
  obtain ⟨j, hj, ej⟩ := pk_andE y (m := 15) 4 (by decide)
  obtain ⟨k, hk, ek⟩ := pk_andE (y >>> ((4 : Int32) &&& 31)) (m := 7) 3 (by decide)
  unfold wpL_itemOf
  refine nm_r ej ?_
  rw [ek]
  refine pk_le 9 j (fun z => pk_eq j 15 (fun z' => ?_) (fun z' => ?_)) (fun z => ⟨by decide, ?_⟩)
  · have e : 1000 + nI k * 130 = nI (1000 + k * 130) := by
      rw [← nI_add, ← pk_mul]
      rfl
    rw [e]
    exact H _ (Or.inr ⟨by omega, by omega⟩)
  · have e : 1000 + nI k * 1 = nI (1000 + k * 1) := by
      rw [← nI_add, ← pk_mul]
      rfl
    rw [e]
    exact H _ (Or.inr ⟨by omega, by omega⟩)
  · have e : nI j - nI j / 4 * 4 = nI (j % 4) := pk_rem (d := 4) (by omega) (by omega) (by omega)
    rw [e]
    exact H _ (Or.inl (by omega))
section
variable {dc pc ln sh nd ft fr : Int32} {fs : Int64} {a1 a2 a3 a4 a5 a6 a7 a8 a10 a12 a13 a14 a15 a16 a17 a18 a19 a20 : Nat → Int32} {a9 a11 : Nat → Int64}
variable {n m e : Nat} {T S : Nat → Nat} {B Q : Nat → List Nat} {p : Nat → Nat → Nat}
theorem la_lines {post : Int32 → Prop} (H : post ln) : wpX_lines post (dc, pc, ln, sh, nd, ft, fs, fr, a1, a2, a3, a4, a5, a6, a7, a8, a9, a10, a11, a12, a13, a14, a15, a16, a17, a18, a19, a20) := H
theorem la_fill7 {post : St1 → Prop} {L f tb : Nat} {xs : Nat → Int32} (hL : L ≤ 260) (hf : f ≤ 100) (hn : n + 7 ≤ 60) (htb : tb ≤ 900) (hT : ∀ l, l < n → T l ≤ tb)
    (hX : la_X n T S B sh nd a3 a4 a5 a6 a7 a8 a9 a10 a11 a12 a13 a14 a15) (H : ∀ T' S' B' u, la_U (n + 7) T' S' B' u → (∀ l, l < n + 7 → T' l ≤ tb + 21) → post u) : wpL_fill post L xs (nI 0, pc, nI n, sh, nd, ft, fs, fr, a1, a2, a3, a4, a5, a6, a7, a8, a9, a10, a11, a12, a13, a14, a15, a16, a17, a18, a19, a20) (nI f) 7 := by
  have main : ∀ t, t ≤ tb → (∀ l, l < n → T l ≤ t) → ∃ fu, wL_fill_26 post L xs (nI f) 7 fu (nI t) 0 (nI 0) pc (nI n) sh nd ft fs fr a1 a2 a3 a4 a5 a6 a7 a8 a9 a10 a11 a12 a13 a14 a15 a16 a17 a18 a19 a20 := by
    intro t0 ht0 ht1
    refine pk_loop (fun q i (s : Nat × St1) => wL_fill_26 post L xs (nI f) 7 q (nI s.1) (nI i) s.2.1 s.2.2.1 s.2.2.2.1 s.2.2.2.2.1 s.2.2.2.2.2.1 s.2.2.2.2.2.2.1 s.2.2.2.2.2.2.2.1 s.2.2.2.2.2.2.2.2.1 s.2.2.2.2.2.2.2.2.2.1 s.2.2.2.2.2.2.2.2.2.2.1 s.2.2.2.2.2.2.2.2.2.2.2.1 s.2.2.2.2.2.2.2.2.2.2.2.2.1 s.2.2.2.2.2.2.2.2.2.2.2.2.2.1 s.2.2.2.2.2.2.2.2.2.2.2.2.2.2.1 s.2.2.2.2.2.2.2.2.2.2.2.2.2.2.2.1 s.2.2.2.2.2.2.2.2.2.2.2.2.2.2.2.2.1 s.2.2.2.2.2.2.2.2.2.2.2.2.2.2.2.2.2.1 s.2.2.2.2.2.2.2.2.2.2.2.2.2.2.2.2.2.2.1 s.2.2.2.2.2.2.2.2.2.2.2.2.2.2.2.2.2.2.2.1 s.2.2.2.2.2.2.2.2.2.2.2.2.2.2.2.2.2.2.2.2.1 s.2.2.2.2.2.2.2.2.2.2.2.2.2.2.2.2.2.2.2.2.2.1 s.2.2.2.2.2.2.2.2.2.2.2.2.2.2.2.2.2.2.2.2.2.2.1 s.2.2.2.2.2.2.2.2.2.2.2.2.2.2.2.2.2.2.2.2.2.2.2.1 s.2.2.2.2.2.2.2.2.2.2.2.2.2.2.2.2.2.2.2.2.2.2.2.2.1 s.2.2.2.2.2.2.2.2.2.2.2.2.2.2.2.2.2.2.2.2.2.2.2.2.2.1 s.2.2.2.2.2.2.2.2.2.2.2.2.2.2.2.2.2.2.2.2.2.2.2.2.2.2.1 s.2.2.2.2.2.2.2.2.2.2.2.2.2.2.2.2.2.2.2.2.2.2.2.2.2.2.2.1 s.2.2.2.2.2.2.2.2.2.2.2.2.2.2.2.2.2.2.2.2.2.2.2.2.2.2.2.2) (fun i s => ∃ T' S' B', la_U (n + i) T' S' B' s.2 ∧ (∀ l, l < n + i → T' l ≤ s.1) ∧ s.1 ≤ tb + 3 * i) 7 0 (t0, (nI 0, pc, nI n, sh, nd, ft, fs, fr, a1, a2, a3, a4, a5, a6, a7, a8, a9, a10, a11, a12, a13, a14, a15, a16, a17, a18, a19, a20)) (by omega) ⟨T, S, B, ⟨rfl, rfl, hX⟩, ht1, ht0⟩ ?_ ?_
    · rintro q ⟨t, u⟩ ⟨T', S', B', hU, h2, h3⟩
      dsimp only at h2 h3
      exact pk_le 7 7 (fun _ => H T' S' B' u hU (fun l hl => by have := h2 l hl; omega)) (fun z => absurd z (by omega))
    · rintro q i ⟨t, ⟨udc, upc, uln, ush, und, uft, ufs, ufr, ua1, ua2, ua3, ua4, ua5, ua6, ua7, ua8, ua9, ua10, ua11, ua12, ua13, ua14, ua15, ua16, ua17, ua18, ua19, ua20⟩⟩ hi ⟨T', S', B', ⟨hdc, hln, hx⟩, h2, h3⟩ hw
      dsimp only at h2 h3
      subst hdc hln
      show wL_fill_26 post L xs (nI f) 7 (q + 1) (nI t) (nI i) (nI 0) upc (nI (n + i)) ush und uft ufs ufr ua1 ua2 ua3 ua4 ua5 ua6 ua7 ua8 ua9 ua10 ua11 ua12 ua13 ua14 ua15 ua16 ua17 ua18 ua19 ua20
      refine pk_le 7 i (fun z => absurd z (by omega)) (fun _ => ?_)
      rw [nI_add]
      refine la_cell hL (by omega) (fun r => ?_)
      obtain ⟨j, hj, ej⟩ := pk_andE (r >>> ((28 : Int32) &&& 31)) (m := 3) 2 (by decide)
      obtain ⟨d, hd, ed⟩ := pk_andE (r >>> ((25 : Int32) &&& 31)) (m := 3) 2 (by decide)
      refine nm_r (e' := nI (1 + j)) (by rw [ej]; exact nI_add 1 j) ?_
      refine pk_loop (fun q' j' (s : List Nat × (Nat → Int32)) => wL_fill_56 post L xs (wL_fill_26 post L xs (nI f) 7 q) (nI f) 7 (nI t) (nI i) r (nI (1 + j)) q' (nI j') (nI s.1.length) upc (nI (n + i)) ush und uft ufs ufr s.2 ua2 ua3 ua4 ua5 ua6 ua7 ua8 ua9 ua10 ua11 ua12 ua13 ua14 ua15 ua16 ua17 ua18 ua19 ua20) (fun j' s => s.1.length = j' ∧ la_F s.1 s.2) (1 + j) 0 ([], ua1) (by omega) ⟨rfl, Nat.zero_le 8, fun k hk => absurd hk (Nat.not_lt_zero k), fun x hx => absurd hx List.not_mem_nil⟩ ?_ ?_
      · rintro q' ⟨D, b1⟩ ⟨g1, g2⟩
        dsimp only at g1 g2 ⊢
        refine pk_le (1 + j) (1 + j) (fun _ => nm_r (e' := nI (t + d)) (by rw [ed, nI_add]) ?_) (fun z => absurd z (by omega))
        refine la_write hx (by omega) g2 (by omega) (by omega) (fun l hl => by have := h2 l hl; omega) (fun s sh' nd' b3 b4 b5 b6 b7 b8 b9 b10 b11 b12 b13 b14 b15 hx2 => nm_r (nI_1 i) (hw (t + d, (0, upc, nI (n + i + 1), sh', nd', 0, ufs, ufr, b1, ua2, b3, b4, b5, b6, b7, b8, b9, b10, b11, b12, b13, b14, b15, ua16, ua17, ua18, ua19, ua20)) ⟨la_u T' (n + i) (t + d), la_u S' (n + i) s, la_u B' (n + i) D, ⟨rfl, rfl, hx2⟩, fun l hl => ?_, ?_⟩))
        · dsimp only
          by_cases z : l = n + i
          · rw [z, la_us]
            exact Nat.le_refl _
          · rw [la_un z]
            have := h2 l (by omega)
            omega
        · show t + d ≤ tb + 3 * (i + 1)
          omega
      · rintro q' j' ⟨D, b1⟩ hj' ⟨g1, g2⟩ hw'
        dsimp only at g1 g2 ⊢
        refine pk_le (1 + j) j' (fun z => absurd z (by omega)) (fun _ => ?_)
        refine la_itemOf _ (fun x hx => la_item hx g2 (by omega) (fun c1 hc1 => nm_r (nI_1 j') ?_))
        have t' := hw' (D ++ [x], c1) ⟨by rw [List.length_append, g1]; rfl, hc1⟩
        dsimp only at t'
        rw [List.length_append] at t'
        exact t'
  have hX' := hX
  obtain ⟨m, k0, e, Q, p, pa, pp, -, -, hm, hk0, hK⟩ := hX'
  unfold wpL_fill
  refine pk_eq n 0 (fun z => main 0 (by omega) (fun l hl => absurd hl (by omega))) (fun z => ?_)
  have em : nI n - 1 = nI (n - 1) := pk_sub (a := n) (b := 1) (by omega)
  refine la_lines ?_
  rw [em]
  refine la_time hK.1 (by omega) (main _ (hT (n - 1) (by omega)) (fun l hl => la_O_ts hK.1 (by omega) (by omega)))
end
end
section
/-! ===== the law's loop over columns ===== -/
theorem la_fst {S : Nat → Nat} {a b g g' : Nat} (h1 : S g = S a) (h2 : ∀ k, k < g → ¬ S k = S a) (h1' : S g' = S b) (h2' : ∀ k, k < g' → ¬ S k = S b) : g = g' ↔ S a = S b := by
  constructor
  · intro e
    rw [← h1, ← h1', e]
  · intro e
    rcases Nat.lt_trichotomy g g' with z | z | z
    · exact absurd (h1.trans e) (h2' g z)
    · exact z
    · exact absurd (h1'.trans e.symm) (h2 g' z)
section
variable {dc pc ln sh nd ft fr : Int32} {fs : Int64} {a1 a2 a3 a4 a5 a6 a7 a8 a10 a12 a13 a14 a15 a16 a17 a18 a19 a20 : Nat → Int32} {a9 a11 : Nat → Int64}
variable {n m e : Nat} {T S : Nat → Nat} {B Q : Nat → List Nat} {p : Nat → Nat → Nat}
theorem la_chk {post : Int32 → Prop} {L kc ks l i : Nat} {xs : Nat → Int32} {J10 J494 : Int32 → Int32 → Int32 → Int32 → Int32 → Int32 → Int32 → Int64 → Int32 → (Nat → Int32) → (Nat → Int32) → (Nat → Int32) → (Nat → Int32) → (Nat → Int32) → (Nat → Int32) → (Nat → Int32) → (Nat → Int32) → (Nat → Int64) → (Nat → Int32) → (Nat → Int64) → (Nat → Int32) → (Nat → Int32) → (Nat → Int32) → (Nat → Int32) → (Nat → Int32) → (Nat → Int32) → (Nat → Int32) → (Nat → Int32) → (Nat → Int32) → Prop} {x2 : Int32} (zz v0 v1 v2 v3 : Int32) (h : la_O n m T S B Q p e a3 a4 a5 a6 a7 a8 a9 a11) (hl : l < n) (hi : i < (B l).length)
    (e0 : zz = 0 → la_cl S B l i n (nI 0) = v0) (e1 : zz = 0 → la_cl S B l i n (nI 1) = v1) (e2 : zz = 0 → la_cl S B l i n (nI 2) = v2) (e3 : zz = 0 → la_cl S B l i n (nI 3) = v3) (ew : ¬ zz = 0 → ∀ w, la_cl S B l i n w = -2)
    (hJ : ∀ f a b c, J494 (nI (i + 1)) dc pc (nI n) sh nd ft fs f a1 a2 a3 a4 a5 a6 a7 a8 a9 a10 a11 a12 a13 a14 a15 a b c a19 a20) : wL_law_710 post L xs J10 J494 x2 (nI l) (nI i) v0 v1 v2 v3 zz kc ks dc pc (nI n) sh nd ft fs fr a1 a2 a3 a4 a5 a6 a7 a8 a9 a10 a11 a12 a13 a14 a15 a16 a17 a18 a19 a20 := by
  have s3 : ∀ z0, la_cl S B l i n (nI 3) = z0 → ∀ f a b c, wL_law_805 post L xs J10 J494 x2 (nI l) (nI i) z0 (la_cl S B l i n (nI 3)) kc ks dc pc (nI n) sh nd ft fs f a1 a2 a3 a4 a5 a6 a7 a8 a9 a10 a11 a12 a13 a14 a15 a b c a19 a20 := fun z0 e f a b c => br_t e (nm_r (nI_1 i) (hJ f a b c))
  have s2 : ∀ z0, la_cl S B l i n (nI 2) = z0 → ∀ f a b c, wL_law_781 post L xs J10 J494 x2 (nI l) (nI i) v3 zz z0 (la_cl S B l i n (nI 2)) kc ks dc pc (nI n) sh nd ft fs f a1 a2 a3 a4 a5 a6 a7 a8 a9 a10 a11 a12 a13 a14 a15 a b c a19 a20 := by
    intro z0 e f a b c
    unfold wL_law_781
    exact br_t e (la_column (w := 3) h hl hi (by omega) (fun f' b' c' => br_c (fun z => s3 _ (e3 z) _ _ _ _) (fun z => s3 _ (ew z _) _ _ _ _)))
  have s1 : ∀ z0, la_cl S B l i n (nI 1) = z0 → ∀ f a b c, wL_law_757 post L xs J10 J494 x2 (nI l) (nI i) v2 v3 zz z0 (la_cl S B l i n (nI 1)) kc ks dc pc (nI n) sh nd ft fs f a1 a2 a3 a4 a5 a6 a7 a8 a9 a10 a11 a12 a13 a14 a15 a b c a19 a20 := by
    intro z0 e f a b c
    unfold wL_law_757
    exact br_t e (la_column (w := 2) h hl hi (by omega) (fun f' b' c' => br_c (fun z => s2 _ (e2 z) _ _ _ _) (fun z => s2 _ (ew z _) _ _ _ _)))
  have s0 : ∀ z0, la_cl S B l i n (nI 0) = z0 → ∀ f a b c, wL_law_733 post L xs J10 J494 x2 (nI l) (nI i) v1 v2 v3 zz z0 (la_cl S B l i n (nI 0)) kc ks dc pc (nI n) sh nd ft fs f a1 a2 a3 a4 a5 a6 a7 a8 a9 a10 a11 a12 a13 a14 a15 a b c a19 a20 := by
    intro z0 e f a b c
    unfold wL_law_733
    exact br_t e (la_column (w := 1) h hl hi (by omega) (fun f' b' c' => br_c (fun z => s1 _ (e1 z) _ _ _ _) (fun z => s1 _ (ew z _) _ _ _ _)))
  unfold wL_law_710
  exact la_column (w := 0) h hl hi (by omega) (fun f' b' c' => br_c (fun z => s0 _ (e0 z) _ _ _ _) (fun z => s0 _ (ew z _) _ _ _ _))
theorem la_571 {post : Int32 → Prop} {L kc ks l i k : Nat} {xs : Nat → Int32} {J10 J494 : Int32 → Int32 → Int32 → Int32 → Int32 → Int32 → Int32 → Int64 → Int32 → (Nat → Int32) → (Nat → Int32) → (Nat → Int32) → (Nat → Int32) → (Nat → Int32) → (Nat → Int32) → (Nat → Int32) → (Nat → Int32) → (Nat → Int64) → (Nat → Int32) → (Nat → Int64) → (Nat → Int32) → (Nat → Int32) → (Nat → Int32) → (Nat → Int32) → (Nat → Int32) → (Nat → Int32) → (Nat → Int32) → (Nat → Int32) → (Nat → Int32) → Prop} {J527 : Int32 → Int32 → Int32 → Int32 → Int32 → Int32 → Int32 → Int32 → Int32 → Int32 → Int32 → Int64 → Int32 → (Nat → Int32) → (Nat → Int32) → (Nat → Int32) → (Nat → Int32) → (Nat → Int32) → (Nat → Int32) → (Nat → Int32) → (Nat → Int32) → (Nat → Int64) → (Nat → Int32) → (Nat → Int64) → (Nat → Int32) → (Nat → Int32) → (Nat → Int32) → (Nat → Int32) → (Nat → Int32) → (Nat → Int32) → (Nat → Int32) → (Nat → Int32) → (Nat → Int32) → Prop} {x2 : Int32} (h : la_O n m T S B Q p e a3 a4 a5 a6 a7 a8 a9 a11) (hl : l < n) (hk : k < n) (hs : S k = S l) (hi : i < (B l).length)
    (hJ : ∀ f a b, J527 (la_ls S B (S l) i (k + 1)) (la_mo S B (S l) i (k + 1)) (la_su S B (S l) i (k + 1)) (nI (la_df S B (S l) i (k + 1))) (nI (k + 1)) dc pc (nI n) sh nd ft fs f a1 a2 a3 a4 a5 a6 a7 a8 a9 a10 a11 a12 a13 a14 a15 a b a18 a19 a20) :
    ∃ fu, wL_law_571 post L xs J10 J494 J527 x2 (nI l) (nI i) (la_ls S B (S l) i k) (la_mo S B (S l) i k) (la_su S B (S l) i k) (nI (la_df S B (S l) i k)) (nI k) (la_v B i k) kc ks fu 1 0 dc pc (nI n) sh nd ft fs fr a1 a2 a3 a4 a5 a6 a7 a8 a9 a10 a11 a12 a13 a14 a15 a16 a17 a18 a19 a20 := by
  have hn := la_O_n h
  have hlen : ∀ o, o < n → S o = S l → i < (B o).length := by
    intro o ho e
    rw [← la_O_ql h ho, e, la_O_ql h hl]
    exact hi
  refine pk_loop (fun q o (s : Int32 × Int32 × (Nat → Int32) × (Nat → Int32)) => wL_law_571 post L xs J10 J494 J527 x2 (nI l) (nI i) (la_ls S B (S l) i k) (la_mo S B (S l) i k) (la_su S B (S l) i k) (nI (la_df S B (S l) i k)) (nI k) (la_v B i k) kc ks q s.1 (nI o) dc pc (nI n) sh nd ft fs s.2.1 a1 a2 a3 a4 a5 a6 a7 a8 a9 a10 a11 a12 a13 a14 a15 s.2.2.1 s.2.2.2 a18 a19 a20)
    (fun o s => (s.1 = 1 ∧ la_new S B (S l) i o (la_g (B k) i)) ∨ (s.1 = 0 ∧ ¬ la_new S B (S l) i o (la_g (B k) i))) k 0 (1, fr, a16, a17) (by omega) (Or.inl ⟨rfl, fun o ho => absurd ho (by omega)⟩) ?_ ?_
  · rintro q ⟨x20, f, a, b⟩ hx
    dsimp only at hx
    have t := hJ f a b
    rw [la_ls, la_mo, la_su, if_pos hs, if_pos hs, if_pos hs] at t
    have f660 : ∀ x14 z0, J527 x14 z0 (la_su S B (S l) i k + la_v B i k) (nI (la_df S B (S l) i (k + 1))) (nI (k + 1)) dc pc (nI n) sh nd ft fs f a1 a2 a3 a4 a5 a6 a7 a8 a9 a10 a11 a12 a13 a14 a15 a b a18 a19 a20 → wL_law_660 post L xs J10 J494 J527 x2 (nI l) (nI i) x14 (la_su S B (S l) i k) (nI (la_df S B (S l) i k)) (nI k) (la_v B i k) x20 z0 kc ks dc pc (nI n) sh nd ft fs f a1 a2 a3 a4 a5 a6 a7 a8 a9 a10 a11 a12 a13 a14 a15 a b a18 a19 a20 := by
      intro x14 z0 ht
      unfold wL_law_660
      refine nm_e ?_
      rcases hx with ⟨x1, x2'⟩ | ⟨x1, x2'⟩
      · subst x1
        rw [la_df_t ⟨hs, x2'⟩] at ht
        exact br_f (by decide) (nm_r (nI_1 _) (nm_r (nI_1 k) ht))
      · subst x1
        rw [la_df_f (fun y => x2' y.2)] at ht
        exact br_t rfl (nm_r (nI_1 k) ht)
    have f644 : ∀ z0, J527 z0 (if la_v B i k ≤ la_mo S B (S l) i k then la_mo S B (S l) i k else la_v B i k) (la_su S B (S l) i k + la_v B i k) (nI (la_df S B (S l) i (k + 1))) (nI (k + 1)) dc pc (nI n) sh nd ft fs f a1 a2 a3 a4 a5 a6 a7 a8 a9 a10 a11 a12 a13 a14 a15 a b a18 a19 a20 → wL_law_644 post L xs J10 J494 J527 x2 (nI l) (nI i) (la_mo S B (S l) i k) (la_su S B (S l) i k) (nI (la_df S B (S l) i k)) (nI k) (la_v B i k) x20 z0 kc ks dc pc (nI n) sh nd ft fs f a1 a2 a3 a4 a5 a6 a7 a8 a9 a10 a11 a12 a13 a14 a15 a b a18 a19 a20 := by
      intro z0 ht
      unfold wL_law_644
      refine br_c (fun g => f660 _ _ ?_) (fun g => f660 _ _ ?_)
      · rw [if_pos g] at ht
        exact ht
      · rw [if_neg g] at ht
        exact ht
    refine pk_le k k (fun _ => br_c (fun g => f644 _ ?_) (fun g => f644 _ ?_)) (fun z => absurd z (by omega))
    · rw [if_pos g] at t
      exact t
    · rw [if_neg g] at t
      exact t
  · rintro q o ⟨x20, f, a, b⟩ ho hx hw
    dsimp only at hx ⊢
    have hon : o < n := by omega
    refine pk_le k o (fun z => absurd z (by omega)) (fun _ => ?_)
    rcases hx with ⟨x1, x2'⟩ | ⟨x1, x2'⟩
    · subst x1
      refine br_f (show ¬ (1 : Int32) = 0 by decide) (la_group h hon (fun g g1 g2 g3 => la_group h hl (fun g' g1' g2' g3' => pk_eq g g' (fun z => ?_) (fun z => nm_r (nI_1 o) (hw (1, f, a, b) (Or.inl ⟨rfl, la_new_s.mpr ⟨x2', fun e => absurd ((la_fst g2 g3 g2' g3').mpr e) z⟩⟩))))))
      have e := (la_fst g2 g3 g2' g3').mp z
      refine la_at h hon (hlen o hon e) (fun f1 a1' b1 => la_at h hk (hlen k hk hs) (fun f2 a2' b2 => ?_))
      have c1 := la_g_lt (la_O_i h hon) i
      have c2 := la_g_lt (la_O_i h hk) i
      refine pk_eq (la_g (B o) i) (la_g (B k) i) (fun y => nm_r (nI_1 o) (hw (0, f2, a2', b2) (Or.inr ⟨rfl, fun y' => (la_new_s.mp y').2 e y⟩))) (fun y => nm_r (nI_1 o) (hw (1, f2, a2', b2) (Or.inl ⟨rfl, la_new_s.mpr ⟨x2', fun _ => y⟩⟩)))
    · subst x1
      exact br_t rfl (nm_r (nI_1 o) (hw (0, f, a, b) (Or.inr ⟨rfl, fun y => x2' (la_new_s.mp y).1⟩)))
theorem la_527 {post : Int32 → Prop} {L kc ks l i : Nat} {xs : Nat → Int32} {J10 J494 : Int32 → Int32 → Int32 → Int32 → Int32 → Int32 → Int32 → Int64 → Int32 → (Nat → Int32) → (Nat → Int32) → (Nat → Int32) → (Nat → Int32) → (Nat → Int32) → (Nat → Int32) → (Nat → Int32) → (Nat → Int32) → (Nat → Int64) → (Nat → Int32) → (Nat → Int64) → (Nat → Int32) → (Nat → Int32) → (Nat → Int32) → (Nat → Int32) → (Nat → Int32) → (Nat → Int32) → (Nat → Int32) → (Nat → Int32) → (Nat → Int32) → Prop} {x2 : Int32} (h : la_O n m T S B Q p e a3 a4 a5 a6 a7 a8 a9 a11) (hl : l < n) (hi : i < (B l).length)
    (hJ : ∀ f a b c, J494 (nI (i + 1)) dc pc (nI n) sh nd ft fs f a1 a2 a3 a4 a5 a6 a7 a8 a9 a10 a11 a12 a13 a14 a15 a b c a19 a20) : ∃ fu, wL_law_527 post L xs J10 J494 x2 (nI l) (nI i) kc ks fu 1000 (-1) 0 0 0 dc pc (nI n) sh nd ft fs fr a1 a2 a3 a4 a5 a6 a7 a8 a9 a10 a11 a12 a13 a14 a15 a16 a17 a18 a19 a20 := by
  have hn := la_O_n h
  refine pk_loop (fun q k (s : Int32 × (Nat → Int32) × (Nat → Int32)) => wL_law_527 post L xs J10 J494 x2 (nI l) (nI i) kc ks q (la_ls S B (S l) i k) (la_mo S B (S l) i k) (la_su S B (S l) i k) (nI (la_df S B (S l) i k)) (nI k) dc pc (nI n) sh nd ft fs s.1 a1 a2 a3 a4 a5 a6 a7 a8 a9 a10 a11 a12 a13 a14 a15 s.2.1 s.2.2 a18 a19 a20) (fun _ _ => True) n 0 (fr, a16, a17) (by omega) trivial ?_ ?_
  · rintro q ⟨f, a, b⟩ _
    unfold wL_law_527
    refine la_lines (pk_le n n (fun _ => ?_) (fun z => absurd z (by omega)))
    refine la_at h hl hi (fun f' a' b' => ?_)
    have hgl := la_g_lt (la_O_i h hl) i
    refine pk_le 1000 (la_g (B l) i) (fun z => ?_) (fun z => ?_)
    · have c : ¬ la_g (B l) i < 1000 := by omega
      refine la_chk 0 _ _ _ _ h hl hi (fun _ => ?_) (fun _ => ?_) (fun _ => ?_) (fun _ => ?_) (fun y => absurd rfl y) hJ
      · unfold la_cl la_rs
        rw [if_neg c, if_neg (by decide), if_pos (by decide)]
      · unfold la_cl la_rs
        rw [if_neg c, if_neg (by decide), if_neg (by decide), if_pos (by decide)]
      · unfold la_cl la_rs
        rw [if_neg c, if_neg (by decide), if_neg (by decide), if_neg (by decide)]
      · unfold la_cl
        rw [if_neg c, if_pos (by decide)]
    · exact la_chk 1 _ _ _ _ h hl hi (fun y => absurd y (by decide)) (fun y => absurd y (by decide)) (fun y => absurd y (by decide)) (fun y => absurd y (by decide)) (fun _ w => if_pos z) hJ
  · rintro q k ⟨f, a, b⟩ hk _ hw
    unfold wL_law_527
    refine la_lines (pk_le n k (fun z => absurd z (by omega)) (fun _ => ?_))
    refine la_group h hk (fun g g1 g2 g3 => la_group h hl (fun g' g1' g2' g3' => pk_eq g g' (fun z => ?_) (fun z => nm_r (nI_1 k) ?_)))
    · have e := (la_fst g2 g3 g2' g3').mp z
      refine la_at h hk (by rw [← la_O_ql h hk, e, la_O_ql h hl]; exact hi) (fun f1 a1' b1 => nm_e ?_)
      exact la_571 h hl hk e hi (fun f2 a2' b2 => hw (f2, a2', b2) trivial)
    · have e : ¬ S k = S l := fun y => z ((la_fst g2 g3 g2' g3').mpr y)
      have t := hw (f, a, b) trivial
      dsimp only at t
      rw [la_ls, la_mo, la_su, if_neg e, if_neg e, if_neg e, la_df_f (fun y => e y.1)] at t
      exact t
theorem la_494 {post : Int32 → Prop} {L kc ks l r : Nat} {xs : Nat → Int32} {J10 : Int32 → Int32 → Int32 → Int32 → Int32 → Int32 → Int32 → Int64 → Int32 → (Nat → Int32) → (Nat → Int32) → (Nat → Int32) → (Nat → Int32) → (Nat → Int32) → (Nat → Int32) → (Nat → Int32) → (Nat → Int32) → (Nat → Int64) → (Nat → Int32) → (Nat → Int64) → (Nat → Int32) → (Nat → Int32) → (Nat → Int32) → (Nat → Int32) → (Nat → Int32) → (Nat → Int32) → (Nat → Int32) → (Nat → Int32) → (Nat → Int32) → Prop} (h : la_O n m T S B Q p e a3 a4 a5 a6 a7 a8 a9 a11) (hl : l < n)
    (hJ : ∀ f a b c, J10 (nI (r + 1)) dc pc (nI n) sh nd ft fs f a1 a2 a3 a4 a5 a6 a7 a8 a9 a10 a11 a12 a13 a14 a15 a b c a19 a20) : ∃ fu, wL_law_494 post L xs J10 (nI r) (nI l) kc ks fu 0 dc pc (nI n) sh nd ft fs fr a1 a2 a3 a4 a5 a6 a7 a8 a9 a10 a11 a12 a13 a14 a15 a16 a17 a18 a19 a20 := by
  have hn := la_O_n h
  have h8 := la_O_8 h hl
  refine pk_loop (fun q i (s : Int32 × (Nat → Int32) × (Nat → Int32) × (Nat → Int32)) => wL_law_494 post L xs J10 (nI r) (nI l) kc ks q (nI i) dc pc (nI n) sh nd ft fs s.1 a1 a2 a3 a4 a5 a6 a7 a8 a9 a10 a11 a12 a13 a14 a15 s.2.1 s.2.2.1 s.2.2.2 a19 a20) (fun _ _ => True) (B l).length 0 (fr, a16, a17, a18) (by omega) trivial ?_ ?_
  · rintro q ⟨f, a, b, c⟩ _
    exact br_f (nI_pos (by omega)) (la_length h hl (pk_le (B l).length (B l).length (fun _ => nm_r (nI_1 r) (hJ f a b c)) (fun z => absurd z (by omega))))
  · rintro q i ⟨f, a, b, c⟩ hi _ hw
    exact br_f (nI_pos (by omega)) (la_length h hl (pk_le (B l).length i (fun z => absurd z (by omega)) (fun _ => la_527 h hl hi (fun f' a' b' c' => hw (f', a', b', c') trivial))))
end
end
section
/-! ===== the law's loop over lines ===== -/
theorem la_cn_btw {n c d f0 t0 : Nat} {T : Nat → Nat} (hc : la_cu n T f0 c) (hd : la_cu n T (t0 + 1) d) : la_cn (fun l => decide (f0 ≤ T l ∧ T l ≤ t0)) n = d - c := by
  obtain ⟨c1, c2, c3⟩ := hc
  obtain ⟨d1, d2, d3⟩ := hd
  rw [la_cn_iv (b := c) (e := d) n (fun l hl => ?_), Nat.min_eq_left d1]
  apply decide_eq_decide.mpr
  constructor
  · rintro ⟨y1, y2⟩
    refine ⟨?_, ?_⟩
    · rcases Nat.lt_or_ge l c with z | z
      · have := c2 l z
        omega
      · exact z
    · rcases Nat.lt_or_ge l d with z | z
      · exact z
      · have := d3 l z hl
        omega
  · rintro ⟨y1, y2⟩
    have := c3 l y1 hl
    have := d2 l y2
    omega
section
variable {dc pc ln sh nd ft fr : Int32} {fs : Int64} {a1 a2 a3 a4 a5 a6 a7 a8 a10 a12 a13 a14 a15 a16 a17 a18 a19 a20 : Nat → Int32} {a9 a11 : Nat → Int64}
variable {n m e : Nat} {T S : Nat → Nat} {B Q : Nat → List Nat} {p : Nat → Nat → Nat}
theorem la_344 {post : Int32 → Prop} {L kc ks l : Nat} {xs : Nat → Int32} {J10 : Int32 → Int32 → Int32 → Int32 → Int32 → Int32 → Int32 → Int64 → Int32 → (Nat → Int32) → (Nat → Int32) → (Nat → Int32) → (Nat → Int32) → (Nat → Int32) → (Nat → Int32) → (Nat → Int32) → (Nat → Int32) → (Nat → Int64) → (Nat → Int32) → (Nat → Int64) → (Nat → Int32) → (Nat → Int32) → (Nat → Int32) → (Nat → Int32) → (Nat → Int32) → (Nat → Int32) → (Nat → Int32) → (Nat → Int32) → (Nat → Int32) → Prop} {J215 : Int32 → Int32 → Int32 → Int32 → Int32 → Int32 → Int32 → Int32 → Int32 → Int32 → Int32 → Int64 → Int32 → (Nat → Int32) → (Nat → Int32) → (Nat → Int32) → (Nat → Int32) → (Nat → Int32) → (Nat → Int32) → (Nat → Int32) → (Nat → Int32) → (Nat → Int64) → (Nat → Int32) → (Nat → Int64) → (Nat → Int32) → (Nat → Int32) → (Nat → Int32) → (Nat → Int32) → (Nat → Int32) → (Nat → Int32) → (Nat → Int32) → (Nat → Int32) → (Nat → Int32) → Prop} {x2 x3 x4 x5 x6 x7 x8 x9 z0 : Int32} (h : la_O n m T S B Q p e a3 a4 a5 a6 a7 a8 a9 a11) (hl : l < n)
    (hJ : ∀ f a b, J215 x8 x9 z0 (la_dg T B (l + 1)) (nI (l + 1)) dc pc (nI n) sh nd ft fs f a1 a2 a3 a4 a5 a6 a7 a8 a9 a10 a11 a12 a13 a14 a15 a b a18 a19 a20) : wL_law_344 post L xs J10 J215 x2 x3 x4 x5 x6 x7 x8 x9 (la_dg T B l) (nI l) z0 kc ks dc pc (nI n) sh nd ft fs fr a1 a2 a3 a4 a5 a6 a7 a8 a9 a10 a11 a12 a13 a14 a15 a16 a17 a18 a19 a20 := by
  have hn := la_O_n h
  have h8 := la_O_8 h hl
  unfold wL_law_344
  refine la_time h hl ?_
  refine pk_loop (fun q i (s : Int32 × (Nat → Int32) × (Nat → Int32)) => wL_law_357 post L xs J10 J215 x2 x3 x4 x5 x6 x7 x8 x9 z0 (la_dg T B l) (nI l) kc ks q (la_dl (B l) (nI (T l)) i) (nI i) dc pc (nI n) sh nd ft fs s.1 a1 a2 a3 a4 a5 a6 a7 a8 a9 a10 a11 a12 a13 a14 a15 s.2.1 s.2.2 a18 a19 a20) (fun _ _ => True) (B l).length 0 (fr, a16, a17) (by omega) trivial ?_ ?_
  · rintro q ⟨f, a, b⟩ _
    unfold wL_law_357
    exact la_length h hl (pk_le (B l).length (B l).length (fun _ => nm_e (nm_r (nI_1 l) (hJ f a b))) (fun z => absurd z (by omega)))
  · rintro q i ⟨f, a, b⟩ hi _ hw
    unfold wL_law_357
    exact la_length h hl (pk_le (B l).length i (fun z => absurd z (by omega)) (fun _ => la_at h hl hi (fun f' a' b' => nm_e (nm_r (nI_1 i) (hw (f', a', b') trivial)))))
theorem la_286 {post : Int32 → Prop} {L kc ks l w : Nat} {xs : Nat → Int32} {J10 : Int32 → Int32 → Int32 → Int32 → Int32 → Int32 → Int32 → Int64 → Int32 → (Nat → Int32) → (Nat → Int32) → (Nat → Int32) → (Nat → Int32) → (Nat → Int32) → (Nat → Int32) → (Nat → Int32) → (Nat → Int32) → (Nat → Int64) → (Nat → Int32) → (Nat → Int64) → (Nat → Int32) → (Nat → Int32) → (Nat → Int32) → (Nat → Int32) → (Nat → Int32) → (Nat → Int32) → (Nat → Int32) → (Nat → Int32) → (Nat → Int32) → Prop} {J215 : Int32 → Int32 → Int32 → Int32 → Int32 → Int32 → Int32 → Int32 → Int32 → Int32 → Int32 → Int64 → Int32 → (Nat → Int32) → (Nat → Int32) → (Nat → Int32) → (Nat → Int32) → (Nat → Int32) → (Nat → Int32) → (Nat → Int32) → (Nat → Int32) → (Nat → Int64) → (Nat → Int32) → (Nat → Int64) → (Nat → Int32) → (Nat → Int32) → (Nat → Int32) → (Nat → Int32) → (Nat → Int32) → (Nat → Int32) → (Nat → Int32) → (Nat → Int32) → (Nat → Int32) → Prop} {x2 x3 x4 x5 x6 x8 x9 : Int32} (hw : w ≤ 1000) (h : la_O n m T S B Q p e a3 a4 a5 a6 a7 a8 a9 a11) (hl : l < n)
    (hJ : ∀ f a b, J215 x8 x9 (nI (la_mx n T w (l + 1))) (la_dg T B (l + 1)) (nI (l + 1)) dc pc (nI n) sh nd ft fs f a1 a2 a3 a4 a5 a6 a7 a8 a9 a10 a11 a12 a13 a14 a15 a b a18 a19 a20) : ∃ fu, wL_law_286 post L xs J10 J215 x2 x3 x4 x5 x6 (nI w) x8 x9 (nI (la_mx n T w l)) (la_dg T B l) (nI l) kc ks dc pc (nI n) sh nd ft fs fr a1 a2 a3 a4 a5 a6 a7 a8 a9 a10 a11 a12 a13 a14 a15 a16 a17 a18 a19 a20 fu 0 (nI l) := by
  have hn := la_O_n h
  have st : la_cn (fun k => decide (l ≤ k ∧ T k < T l + w)) l = 0 := la_cn_0 (fun k hk => decide_eq_false (fun z => absurd z.1 (by omega)))
  have main := pk_loop (σ := Unit) (fun q k _ => wL_law_286 post L xs J10 J215 x2 x3 x4 x5 x6 (nI w) x8 x9 (nI (la_mx n T w l)) (la_dg T B l) (nI l) kc ks dc pc (nI n) sh nd ft fs fr a1 a2 a3 a4 a5 a6 a7 a8 a9 a10 a11 a12 a13 a14 a15 a16 a17 a18 a19 a20 q (nI (la_cn (fun k => decide (l ≤ k ∧ T k < T l + w)) k)) (nI k)) (fun k _ => l ≤ k) n l () (by omega) (Nat.le_refl l) ?_ ?_
  · rw [st] at main
    exact main
  · intro q _ _
    have b1 := la_mx_le n T w l
    have b2 := la_nw_le n T w l
    unfold la_mx at hJ
    unfold wL_law_286
    refine la_lines (pk_le n n (fun _ => pk_le (la_nw n T w l) (la_mx n T w l) (fun z => la_344 h hl ?_) (fun z => la_344 h hl ?_)) (fun z => absurd z (by omega)))
    · rw [if_pos z] at hJ
      exact hJ
    · rw [if_neg (by omega)] at hJ
      exact hJ
  · intro q k _ hk hlk hw'
    have t1 := la_O_tb h hl
    have t2 := la_O_tb h hk
    unfold wL_law_286
    refine la_lines (pk_le n k (fun z => absurd z (by omega)) (fun _ => la_time h hk (la_time h hl ?_)))
    have t := hw' () (by omega)
    rw [nI_add]
    refine pk_le (T l + w) (T k) (fun z => nm_r (nI_1 k) ?_) (fun z => nm_r (e' := nI (la_cn (fun k => decide (l ≤ k ∧ T k < T l + w)) (k + 1))) ?_ (nm_r (nI_1 k) t))
    · rw [la_cn_f (decide_eq_false (fun y => absurd y.2 (by omega)))] at t
      exact t
    · rw [la_cn_t (decide_eq_true ⟨hlk, z⟩), nI_1]
theorem la_244 {post : Int32 → Prop} {L kc ks l w f0 t0 : Nat} {xs : Nat → Int32} {J10 : Int32 → Int32 → Int32 → Int32 → Int32 → Int32 → Int32 → Int64 → Int32 → (Nat → Int32) → (Nat → Int32) → (Nat → Int32) → (Nat → Int32) → (Nat → Int32) → (Nat → Int32) → (Nat → Int32) → (Nat → Int32) → (Nat → Int64) → (Nat → Int32) → (Nat → Int64) → (Nat → Int32) → (Nat → Int32) → (Nat → Int32) → (Nat → Int32) → (Nat → Int32) → (Nat → Int32) → (Nat → Int32) → (Nat → Int32) → (Nat → Int32) → Prop} {J215 : Int32 → Int32 → Int32 → Int32 → Int32 → Int32 → Int32 → Int32 → Int32 → Int32 → Int32 → Int64 → Int32 → (Nat → Int32) → (Nat → Int32) → (Nat → Int32) → (Nat → Int32) → (Nat → Int32) → (Nat → Int32) → (Nat → Int32) → (Nat → Int32) → (Nat → Int64) → (Nat → Int32) → (Nat → Int64) → (Nat → Int32) → (Nat → Int32) → (Nat → Int32) → (Nat → Int32) → (Nat → Int32) → (Nat → Int32) → (Nat → Int32) → (Nat → Int32) → (Nat → Int32) → Prop} {x2 x3 x4 z0 : Int32} (hw : w ≤ 1000) (hf : f0 ≤ 1000) (ht : t0 ≤ 1000) (h : la_O n m T S B Q p e a3 a4 a5 a6 a7 a8 a9 a11) (hl : l < n)
    (hJ : ∀ f a b, J215 z0 (nI (la_cn (fun l => decide (f0 ≤ T l ∧ T l ≤ t0)) (l + 1))) (nI (la_mx n T w (l + 1))) (la_dg T B (l + 1)) (nI (l + 1)) dc pc (nI n) sh nd ft fs f a1 a2 a3 a4 a5 a6 a7 a8 a9 a10 a11 a12 a13 a14 a15 a b a18 a19 a20) :
    wL_law_244 post L xs J10 J215 x2 x3 x4 (nI f0) (nI t0) (nI w) (nI (la_cn (fun l => decide (f0 ≤ T l ∧ T l ≤ t0)) l)) (nI (la_mx n T w l)) (la_dg T B l) (nI l) z0 kc ks dc pc (nI n) sh nd ft fs fr a1 a2 a3 a4 a5 a6 a7 a8 a9 a10 a11 a12 a13 a14 a15 a16 a17 a18 a19 a20 := by
  have tb := la_O_tb h hl
  unfold wL_law_244
  refine la_time h hl (pk_lt (T l) f0 (fun z => la_286 hw h hl ?_) (fun z => la_time h hl (pk_lt t0 (T l) (fun z' => la_286 hw h hl ?_) (fun z' => nm_r (e' := nI (la_cn (fun l => decide (f0 ≤ T l ∧ T l ≤ t0)) (l + 1))) ?_ (la_286 hw h hl hJ)))))
  · rw [la_cn_f (decide_eq_false (fun y => absurd y.1 (by omega)))] at hJ
    exact hJ
  · rw [la_cn_f (decide_eq_false (fun y => absurd y.2 (by omega)))] at hJ
    exact hJ
  · rw [la_cn_t (decide_eq_true ⟨z, z'⟩), nI_1]
theorem la_215 {post : Int32 → Prop} {L kc ks r x f0 t0 w : Nat} {xs : Nat → Int32} {J10 : Int32 → Int32 → Int32 → Int32 → Int32 → Int32 → Int32 → Int64 → Int32 → (Nat → Int32) → (Nat → Int32) → (Nat → Int32) → (Nat → Int32) → (Nat → Int32) → (Nat → Int32) → (Nat → Int32) → (Nat → Int32) → (Nat → Int64) → (Nat → Int32) → (Nat → Int64) → (Nat → Int32) → (Nat → Int32) → (Nat → Int32) → (Nat → Int32) → (Nat → Int32) → (Nat → Int32) → (Nat → Int32) → (Nat → Int32) → (Nat → Int32) → Prop} {x3 : Int32} (hx : la_it x) (hf : f0 ≤ 100) (hft : f0 ≤ t0) (ht : t0 ≤ 100) (hw1 : 1 ≤ w) (hw2 : w ≤ 100) (h : la_O n m T S B Q p e a3 a4 a5 a6 a7 a8 a9 a11)
    (hJ : ∀ f a b c, J10 (nI (r + 1)) dc pc (nI n) (nI m) nd ft fs f a1 a2 a3 a4 a5 a6 a7 a8 a9 a10 a11 a12 a13 a14 a15 a b c a19 a20) : ∃ fu, wL_law_215 post L xs J10 (nI r) x3 (nI x) (nI f0) (nI t0) (nI w) kc ks fu 0 0 0 0 0 dc pc (nI n) (nI m) nd ft fs fr a1 a2 a3 a4 a5 a6 a7 a8 a9 a10 a11 a12 a13 a14 a15 a16 a17 a18 a19 a20 := by
  have hn := la_O_n h
  refine pk_loop (fun q l (s : Int32 × (Nat → Int32) × (Nat → Int32)) => wL_law_215 post L xs J10 (nI r) x3 (nI x) (nI f0) (nI t0) (nI w) kc ks q (nI (la_cn (fun l => decide (x ∈ B l)) l)) (nI (la_cn (fun l => decide (f0 ≤ T l ∧ T l ≤ t0)) l)) (nI (la_mx n T w l)) (la_dg T B l) (nI l) dc pc (nI n) (nI m) nd ft fs s.1 a1 a2 a3 a4 a5 a6 a7 a8 a9 a10 a11 a12 a13 a14 a15 s.2.1 s.2.2 a18 a19 a20) (fun _ _ => True) n 0 (fr, a16, a17) (by omega) trivial ?_ ?_
  · rintro q ⟨f, a, b⟩ _
    unfold wL_law_215
    refine la_lines (pk_le n n (fun _ => ?_) (fun z => absurd z (by omega)))
    refine la_having hx h (fun f1 b1 => br_t rfl ?_)
    refine la_between (j := f0) (k := t0 + 1) (by omega) (by omega) (nI_1 t0) (nI_lt (b := 1000) (by omega) (by omega)) h (fun c d hc hd => br_t (by rw [la_cn_btw hc hd]) ?_)
    refine la_burst hw1 (by omega) h (br_t rfl ?_)
    refine la_digest h (fun f2 a2' b2 => br_t rfl ?_)
    refine la_between (j := t0) (k := f0) (by omega) (by omega) ?_ ?_ h (fun c' d' hc' hd' => br_t ?_ ?_)
    · grind
    · have h0 : (nI f0 - 1).toInt = (f0 : Int) - 1 := pk_sub_toInt (a := f0) (b := 1) (by omega) (by omega)
      rw [Int32.lt_iff_toInt_lt, h0, show (1000 : Int32).toInt = 1000 by decide]
      omega
    · have := la_cu_le hft hd' hc'
      rw [show d' - c' = 0 by omega]
      rfl
    · refine la_lines (pk_eq n 0 (fun z => ⟨1, br_t (by decide) (nm_r (nI_1 r) (hJ _ _ _ _))⟩) (fun z => la_lines ⟨nI_ne0 (by omega) (by omega), ?_⟩))
      obtain ⟨y, hy, ey⟩ := pk_andE x3 (m := 2147483647) 31 (by decide)
      refine nm_r (e' := nI (y % n)) (by rw [ey]; exact pk_rem hy (by omega) (by omega)) ?_
      exact la_494 h (Nat.mod_lt _ (by omega)) hJ
  · rintro q l ⟨f, a, b⟩ hl _ hw
    unfold wL_law_215
    refine la_lines (pk_le n l (fun z => absurd z (by omega)) (fun _ => ?_))
    refine la_has hx h hl (fun z f' a' b' => br_f (by decide) ?_) (fun z f' a' b' => br_t rfl ?_)
    · refine la_244 (by omega) (by omega) (by omega) h hl (fun f2 a2' b2 => ?_)
      have t := hw (f2, a2', b2) trivial
      dsimp only at t
      rw [la_cn_t (P := fun l => decide (x ∈ B l)) (decide_eq_true z), ← nI_1] at t
      exact t
    · refine la_244 (by omega) (by omega) (by omega) h hl (fun f2 a2' b2 => ?_)
      have t := hw (f2, a2', b2) trivial
      dsimp only at t
      rw [la_cn_f (P := fun l => decide (x ∈ B l)) (decide_eq_false z)] at t
      exact t
theorem la_159 {post : Int32 → Prop} {L kc ks r : Nat} {xs : Nat → Int32} {J10 : Int32 → Int32 → Int32 → Int32 → Int32 → Int32 → Int32 → Int64 → Int32 → (Nat → Int32) → (Nat → Int32) → (Nat → Int32) → (Nat → Int32) → (Nat → Int32) → (Nat → Int32) → (Nat → Int32) → (Nat → Int32) → (Nat → Int64) → (Nat → Int32) → (Nat → Int64) → (Nat → Int32) → (Nat → Int32) → (Nat → Int32) → (Nat → Int32) → (Nat → Int32) → (Nat → Int32) → (Nat → Int32) → (Nat → Int32) → (Nat → Int32) → Prop} {x3 : Int32} (h : la_O n m T S B Q p e a3 a4 a5 a6 a7 a8 a9 a11)
    (hJ : ∀ f a b c, J10 (nI (r + 1)) dc pc (nI n) (nI m) nd ft fs f a1 a2 a3 a4 a5 a6 a7 a8 a9 a10 a11 a12 a13 a14 a15 a b c a19 a20) : wL_law_159 post L xs J10 (nI r) x3 kc ks dc pc (nI n) (nI m) nd ft fs fr a1 a2 a3 a4 a5 a6 a7 a8 a9 a10 a11 a12 a13 a14 a15 a16 a17 a18 a19 a20 := by
  obtain ⟨i, hi, ei⟩ := pk_andE (x3 >>> ((16 : Int32) &&& 31)) (m := 31) 5 (by decide)
  obtain ⟨j, hj, ej⟩ := pk_andE (x3 >>> ((21 : Int32) &&& 31)) (m := 31) 5 (by decide)
  obtain ⟨k, hk, ek⟩ := pk_andE (x3 >>> ((26 : Int32) &&& 31)) (m := 15) 4 (by decide)
  unfold wL_law_159
  refine la_itemOf _ (fun x hx => nm_r ei (nm_r (e' := nI (i + j)) (by rw [ej, nI_add]) (nm_r (e' := nI (1 + k)) (by rw [ek]; exact nI_add 1 k) ?_)))
  exact la_215 hx (by omega) (by omega) (by omega) (by omega) (by omega) h hJ
end
end
section
/-! ===== the law ===== -/
section
variable {dc pc ln sh nd ft fr : Int32} {fs : Int64} {a1 a2 a3 a4 a5 a6 a7 a8 a10 a12 a13 a14 a15 a16 a17 a18 a19 a20 : Nat → Int32} {a9 a11 : Nat → Int64}
variable {n m e : Nat} {T S : Nat → Nat} {B Q : Nat → List Nat} {p : Nat → Nat → Nat}
theorem la_104 {post : Int32 → Prop} {L kc ks r d tm tb : Nat} {xs : Nat → Int32} {J10 : Int32 → Int32 → Int32 → Int32 → Int32 → Int32 → Int32 → Int64 → Int32 → (Nat → Int32) → (Nat → Int32) → (Nat → Int32) → (Nat → Int32) → (Nat → Int32) → (Nat → Int32) → (Nat → Int32) → (Nat → Int32) → (Nat → Int64) → (Nat → Int32) → (Nat → Int64) → (Nat → Int32) → (Nat → Int32) → (Nat → Int32) → (Nat → Int32) → (Nat → Int32) → (Nat → Int32) → (Nat → Int32) → (Nat → Int32) → (Nat → Int32) → Prop} {x3 x7 z0 : Int32} (htm : tm ≤ 1000) (hX : la_X n T S B sh nd a3 a4 a5 a6 a7 a8 a9 a10 a11 a12 a13 a14 a15) (hT : ∀ l, l < n → T l ≤ tb) (hd : la_cu n T tm d)
    (h7 : d < n → x7 = nI (la_g (B d) 0)) (hz : d < n → z0 = nI (T d))
    (hJ : ∀ n' T' S' B' (u : St1), la_U n' T' S' B' u → n' ≤ n → (∀ l, l < n' → T' l ≤ tb) → J10 (nI (r + 1)) u.1 u.2.1 u.2.2.1 u.2.2.2.1 u.2.2.2.2.1 u.2.2.2.2.2.1 u.2.2.2.2.2.2.1 u.2.2.2.2.2.2.2.1 u.2.2.2.2.2.2.2.2.1 u.2.2.2.2.2.2.2.2.2.1 u.2.2.2.2.2.2.2.2.2.2.1 u.2.2.2.2.2.2.2.2.2.2.2.1 u.2.2.2.2.2.2.2.2.2.2.2.2.1 u.2.2.2.2.2.2.2.2.2.2.2.2.2.1 u.2.2.2.2.2.2.2.2.2.2.2.2.2.2.1 u.2.2.2.2.2.2.2.2.2.2.2.2.2.2.2.1 u.2.2.2.2.2.2.2.2.2.2.2.2.2.2.2.2.1 u.2.2.2.2.2.2.2.2.2.2.2.2.2.2.2.2.2.1 u.2.2.2.2.2.2.2.2.2.2.2.2.2.2.2.2.2.2.1 u.2.2.2.2.2.2.2.2.2.2.2.2.2.2.2.2.2.2.2.1 u.2.2.2.2.2.2.2.2.2.2.2.2.2.2.2.2.2.2.2.2.1 u.2.2.2.2.2.2.2.2.2.2.2.2.2.2.2.2.2.2.2.2.2.1 u.2.2.2.2.2.2.2.2.2.2.2.2.2.2.2.2.2.2.2.2.2.2.1 u.2.2.2.2.2.2.2.2.2.2.2.2.2.2.2.2.2.2.2.2.2.2.2.1 u.2.2.2.2.2.2.2.2.2.2.2.2.2.2.2.2.2.2.2.2.2.2.2.2.1 u.2.2.2.2.2.2.2.2.2.2.2.2.2.2.2.2.2.2.2.2.2.2.2.2.2.1 u.2.2.2.2.2.2.2.2.2.2.2.2.2.2.2.2.2.2.2.2.2.2.2.2.2.2.1 u.2.2.2.2.2.2.2.2.2.2.2.2.2.2.2.2.2.2.2.2.2.2.2.2.2.2.2) :
    wL_law_104 post L xs J10 (nI r) x3 (nI tm) (nI d) (nI n) x7 z0 kc ks (nI 0) pc (nI n) sh nd ft fs fr a1 a2 a3 a4 a5 a6 a7 a8 a9 a10 a11 a12 a13 a14 a15 a16 a17 a18 a19 a20 := by
  have hX' := hX
  obtain ⟨m1, k1, e1, Q1, p1, pa1, pp1, -, -, -, -, hK1⟩ := hX'
  have hn := la_O_n hK1.1
  have hdn := hd.1
  unfold wL_law_104
  refine la_expire (by omega) hX (fun g S' sh' nd' ft' fr' b1 b3 b4 b5 b6 b7 b8 b9 b10 b11 b12 b13 b14 b15 b16 b17 b18 b19 b20 hg hx => ?_)
  have eg := la_cu_u hg hd
  subst eg
  have hx' := hx
  obtain ⟨m, k0, e, Q, p, pa, pp, rfl, rfl, hm, hk0, hK⟩ := hx'
  have h := hK.1
  have fin : ∀ f a b c, J10 (nI (r + 1)) (nI 0) pc (nI (n - g)) (nI m) (nI k0) ft' fs f b1 a2 b3 b4 b5 b6 b7 b8 b9 b10 b11 b12 b13 b14 b15 a b c b19 b20 := by
    intro f a b c
    exact hJ (n - g) _ S' _ (nI 0, pc, nI (n - g), nI m, nI k0, ft', fs, f, b1, a2, b3, b4, b5, b6, b7, b8, b9, b10, b11, b12, b13, b14, b15, a, b, c, b19, b20) ⟨rfl, rfl, hx⟩ (by omega) (fun l hl => hT (g + l) (by omega))
  refine br_t rfl (la_lines (br_t (pk_sub hdn).symm (pk_le n g (fun z => la_159 h fin) (fun z => ?_))))
  refine la_at (l := 0) (i := 0) h (by omega) (la_O_0 h (by omega)) (fun f a b => br_t (h7 z).symm (la_time (l := 0) h (by omega) (br_t (hz z).symm (la_159 h fin))))
theorem la_10 {post : Int32 → Prop} {L kc ks : Nat} {xs : Nat → Int32} (hL : L ≤ 260) (H : post 1) (u0 : St1) (hU : la_U 0 T S B u0) : ∃ fu, wL_law_10 post L xs kc ks fu 0 u0.1 u0.2.1 u0.2.2.1 u0.2.2.2.1 u0.2.2.2.2.1 u0.2.2.2.2.2.1 u0.2.2.2.2.2.2.1 u0.2.2.2.2.2.2.2.1 u0.2.2.2.2.2.2.2.2.1 u0.2.2.2.2.2.2.2.2.2.1 u0.2.2.2.2.2.2.2.2.2.2.1 u0.2.2.2.2.2.2.2.2.2.2.2.1 u0.2.2.2.2.2.2.2.2.2.2.2.2.1 u0.2.2.2.2.2.2.2.2.2.2.2.2.2.1 u0.2.2.2.2.2.2.2.2.2.2.2.2.2.2.1 u0.2.2.2.2.2.2.2.2.2.2.2.2.2.2.2.1 u0.2.2.2.2.2.2.2.2.2.2.2.2.2.2.2.2.1 u0.2.2.2.2.2.2.2.2.2.2.2.2.2.2.2.2.2.1 u0.2.2.2.2.2.2.2.2.2.2.2.2.2.2.2.2.2.2.1 u0.2.2.2.2.2.2.2.2.2.2.2.2.2.2.2.2.2.2.2.1 u0.2.2.2.2.2.2.2.2.2.2.2.2.2.2.2.2.2.2.2.2.1 u0.2.2.2.2.2.2.2.2.2.2.2.2.2.2.2.2.2.2.2.2.2.1 u0.2.2.2.2.2.2.2.2.2.2.2.2.2.2.2.2.2.2.2.2.2.2.1 u0.2.2.2.2.2.2.2.2.2.2.2.2.2.2.2.2.2.2.2.2.2.2.2.1 u0.2.2.2.2.2.2.2.2.2.2.2.2.2.2.2.2.2.2.2.2.2.2.2.2.1 u0.2.2.2.2.2.2.2.2.2.2.2.2.2.2.2.2.2.2.2.2.2.2.2.2.2.1 u0.2.2.2.2.2.2.2.2.2.2.2.2.2.2.2.2.2.2.2.2.2.2.2.2.2.2.1 u0.2.2.2.2.2.2.2.2.2.2.2.2.2.2.2.2.2.2.2.2.2.2.2.2.2.2.2 := by
  refine pk_loop (fun q r (u : St1) => wL_law_10 post L xs kc ks q (nI r) u.1 u.2.1 u.2.2.1 u.2.2.2.1 u.2.2.2.2.1 u.2.2.2.2.2.1 u.2.2.2.2.2.2.1 u.2.2.2.2.2.2.2.1 u.2.2.2.2.2.2.2.2.1 u.2.2.2.2.2.2.2.2.2.1 u.2.2.2.2.2.2.2.2.2.2.1 u.2.2.2.2.2.2.2.2.2.2.2.1 u.2.2.2.2.2.2.2.2.2.2.2.2.1 u.2.2.2.2.2.2.2.2.2.2.2.2.2.1 u.2.2.2.2.2.2.2.2.2.2.2.2.2.2.1 u.2.2.2.2.2.2.2.2.2.2.2.2.2.2.2.1 u.2.2.2.2.2.2.2.2.2.2.2.2.2.2.2.2.1 u.2.2.2.2.2.2.2.2.2.2.2.2.2.2.2.2.2.1 u.2.2.2.2.2.2.2.2.2.2.2.2.2.2.2.2.2.2.1 u.2.2.2.2.2.2.2.2.2.2.2.2.2.2.2.2.2.2.2.1 u.2.2.2.2.2.2.2.2.2.2.2.2.2.2.2.2.2.2.2.2.1 u.2.2.2.2.2.2.2.2.2.2.2.2.2.2.2.2.2.2.2.2.2.1 u.2.2.2.2.2.2.2.2.2.2.2.2.2.2.2.2.2.2.2.2.2.2.1 u.2.2.2.2.2.2.2.2.2.2.2.2.2.2.2.2.2.2.2.2.2.2.2.1 u.2.2.2.2.2.2.2.2.2.2.2.2.2.2.2.2.2.2.2.2.2.2.2.2.1 u.2.2.2.2.2.2.2.2.2.2.2.2.2.2.2.2.2.2.2.2.2.2.2.2.2.1 u.2.2.2.2.2.2.2.2.2.2.2.2.2.2.2.2.2.2.2.2.2.2.2.2.2.2.1 u.2.2.2.2.2.2.2.2.2.2.2.2.2.2.2.2.2.2.2.2.2.2.2.2.2.2.2) (fun r u => ∃ n T S B, la_U n T S B u ∧ n ≤ 7 * r ∧ ∀ l, l < n → T l ≤ 21 * r) 6 0 u0 (by omega) ⟨0, T, S, B, hU, by omega, fun l hl => absurd hl (by omega)⟩ ?_ ?_
  · rintro q u _
    exact pk_le 6 6 (fun _ => H) (fun z => absurd z (by omega))
  · rintro q r ⟨dc, pc, ln, sh, nd, ft, fs, fr, a1, a2, a3, a4, a5, a6, a7, a8, a9, a10, a11, a12, a13, a14, a15, a16, a17, a18, a19, a20⟩ hr ⟨n, T, S, B, ⟨hdc, hln, hX⟩, hn, hT⟩ hw
    subst hdc hln
    show wL_law_10 post L xs kc ks (q + 1) (nI r) (nI 0) pc (nI n) sh nd ft fs fr a1 a2 a3 a4 a5 a6 a7 a8 a9 a10 a11 a12 a13 a14 a15 a16 a17 a18 a19 a20
    refine pk_le 6 r (fun z => absurd z (by omega)) (fun _ => ?_)
    rw [show (7 : Int32) * nI r = nI (7 * r) from pk_mul 7 r]
    refine la_fill7 hL (by omega) (by omega) (tb := 21 * r) (by omega) hT hX (fun T' S' B' u hU' hT' => ?_)
    obtain ⟨udc, upc, uln, ush, und, uft, ufs, ufr, ua1, ua2, ua3, ua4, ua5, ua6, ua7, ua8, ua9, ua10, ua11, ua12, ua13, ua14, ua15, ua16, ua17, ua18, ua19, ua20⟩ := u
    obtain ⟨hdc, hln, hX'⟩ := hU'
    subst hdc hln
    have hJ : ∀ n' T2 S2 B2 (u : St1), la_U n' T2 S2 B2 u → n' ≤ n + 7 → (∀ l, l < n' → T2 l ≤ 21 * r + 21) → wL_law_10 post L xs kc ks q (nI (r + 1)) u.1 u.2.1 u.2.2.1 u.2.2.2.1 u.2.2.2.2.1 u.2.2.2.2.2.1 u.2.2.2.2.2.2.1 u.2.2.2.2.2.2.2.1 u.2.2.2.2.2.2.2.2.1 u.2.2.2.2.2.2.2.2.2.1 u.2.2.2.2.2.2.2.2.2.2.1 u.2.2.2.2.2.2.2.2.2.2.2.1 u.2.2.2.2.2.2.2.2.2.2.2.2.1 u.2.2.2.2.2.2.2.2.2.2.2.2.2.1 u.2.2.2.2.2.2.2.2.2.2.2.2.2.2.1 u.2.2.2.2.2.2.2.2.2.2.2.2.2.2.2.1 u.2.2.2.2.2.2.2.2.2.2.2.2.2.2.2.2.1 u.2.2.2.2.2.2.2.2.2.2.2.2.2.2.2.2.2.1 u.2.2.2.2.2.2.2.2.2.2.2.2.2.2.2.2.2.2.1 u.2.2.2.2.2.2.2.2.2.2.2.2.2.2.2.2.2.2.2.1 u.2.2.2.2.2.2.2.2.2.2.2.2.2.2.2.2.2.2.2.2.1 u.2.2.2.2.2.2.2.2.2.2.2.2.2.2.2.2.2.2.2.2.2.1 u.2.2.2.2.2.2.2.2.2.2.2.2.2.2.2.2.2.2.2.2.2.2.1 u.2.2.2.2.2.2.2.2.2.2.2.2.2.2.2.2.2.2.2.2.2.2.2.1 u.2.2.2.2.2.2.2.2.2.2.2.2.2.2.2.2.2.2.2.2.2.2.2.2.1 u.2.2.2.2.2.2.2.2.2.2.2.2.2.2.2.2.2.2.2.2.2.2.2.2.2.1 u.2.2.2.2.2.2.2.2.2.2.2.2.2.2.2.2.2.2.2.2.2.2.2.2.2.2.1 u.2.2.2.2.2.2.2.2.2.2.2.2.2.2.2.2.2.2.2.2.2.2.2.2.2.2.2 := fun n' T2 S2 B2 u h1 h2 h3 => hw u ⟨n', T2, S2, B2, h1, by omega, fun l hl => by have := h3 l hl; omega⟩
    have hX2 := hX'
    obtain ⟨m, k0, e, Q, p, pa, pp, rfl, rfl, hm, hk0, hK⟩ := hX2
    have h := hK.1
    show wpL_cell _ L xs () (43 + nI r)
    rw [show (43 : Int32) + nI r = nI (43 + r) from nI_add 43 r]
    refine la_cell hL (by omega) (fun x => br_c (fun z => ?_) (fun z => ?_))
    · obtain ⟨tm, htm, etm⟩ := pk_andE (x >>> ((2 : Int32) &&& 31)) (m := 63) 6 (by decide)
      refine nm_r etm ?_
      refine la_betweenM (k := tm) (by omega) (by grind) ?_ h (fun d hd => la_lines ?_)
      · have h0 : (nI tm - 1).toInt = (tm : Int) - 1 := pk_sub_toInt (a := tm) (b := 1) (by omega) (by omega)
        rw [Int32.lt_iff_toInt_lt, h0, show (1000 : Int32).toInt = 1000 by decide]
        omega
      have hdn := hd.1
      refine pk_le (n + 7) d (fun y => ?_) (fun y => ?_)
      · unfold wL_law_85
        refine pk_le (n + 7) d (fun _ => ?_) (fun y' => absurd y' (by omega))
        exact la_104 (by omega) hX' hT' hd (fun y' => absurd y' (by omega)) (fun y' => absurd y' (by omega)) hJ
      · refine la_at (i := 0) h y (la_O_0 h y) (fun f a b => ?_)
        unfold wL_law_85
        refine pk_le (n + 7) d (fun y' => absurd y' (by omega)) (fun _ => la_time h y ?_)
        exact la_104 (by omega) hX' hT' hd (fun _ => rfl) (fun _ => rfl) hJ
    · exact la_159 h (fun f a b c => hJ (n + 7) T' S' B' (nI 0, upc, nI (n + 7), nI m, nI k0, uft, ufs, f, ua1, ua2, ua3, ua4, ua5, ua6, ua7, ua8, ua9, ua10, ua11, ua12, ua13, ua14, ua15, a, b, c, ua19, ua20) ⟨rfl, rfl, hX'⟩ (Nat.le_refl _) hT')
end
theorem i_vc (xs : Nat → Int32) (L : Nat) (hL : L ≤ 260) : wpL_law (fun r => r = 1) L xs := by
  unfold wpL_law
  refine ⟨20, 4813, by omega, by omega, ?_⟩
  unfold wpX_init
  refine ⟨by omega, by omega, by omega, by omega, by omega, by omega, by omega, by omega, by omega, by omega, by omega, by omega, by omega, by omega, by omega, by omega, by omega, by omega, by omega, by omega, by omega, by omega, by omega, by omega, by omega, by omega, by omega, by omega, by omega, by omega, by omega, by omega, by omega, by omega, by omega, by omega, by omega, by omega, by omega, by omega, ?_⟩
  refine la_empty (fun _ => 0) (fun _ => 0) (fun _ => []) (fun sh' nd' b5 b11 b12 b13 b14 b15 hx => ?_)
  exact la_10 (post := fun r => r = 1) hL rfl (0, 0, nI 0, sh', nd', 0, 0, 0, fun _ => 0, fun _ => 0, fun _ => 0, fun _ => 0, b5, fun _ => 0, fun _ => 0, fun _ => 0, fun _ => 0, fun _ => 0, b11, b12, b13, b14, b15, fun _ => 0, fun _ => 0, fun _ => 0, fun _ => 0, fun _ => 0) ⟨rfl, rfl, hx⟩
end
