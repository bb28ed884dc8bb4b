section
/-! ===== the pure picture: the desk as naturals; H: the simplices held, as bits ===== -/
/-- a natural made a literal before it goes on (for the kernel) -/
def cd_fo {α : Type} (n : Nat) (f : Nat → α) : α := Nat.rec (f 0) (fun m _ => f (m + 1)) n
theorem cd_fo_eq {α : Type} (n : Nat) (f : Nat → α) : cd_fo n f = f n := by
  cases n <;> rfl
/-- how many points a simplex has: a table, three bits each -/
def cd_pt (s : Nat) : Nat := 55157063682984551670960690248 / 8 ^ s % 8
def cd_hit (H q s : Nat) : Bool := H.testBit s && cd_pt s == q
/-- held simplices of q points among x - j .. x - 1 -/
def cd_T (H q x : Nat) : Nat → Nat
  | 0 => 0
  | j + 1 => (if cd_hit H q (x - (j + 1)) = true then 1 else 0) + cd_T H q x j
def cd_cn (H k : Nat) : Nat := cd_T H (k + 1) 32 31
def cd_pl (H x : Nat) : Nat := cd_T H (cd_pt x) x (x - 1)
def cd_sxF (H q : Nat) : Nat → Nat → Nat
  | 0, _ => 0
  | j + 1, r => if cd_hit H q (32 - (j + 1)) = true then (if r = 0 then 32 - (j + 1) else cd_sxF H q j (r - 1)) else cd_sxF H q j r
def cd_sx (H k i : Nat) : Nat := cd_sxF H (k + 1) 31 i
def cd_fcF (H x : Nat) : Nat → Nat → Nat
  | 0, a => a
  | j + 1, a => cd_fcF H x j (if x.testBit (5 - (j + 1)) = true then a ^^^ 2 ^ cd_pl H (x ^^^ 2 ^ (5 - (j + 1))) else a)
def cd_fc (H x : Nat) : Nat := cd_fcF H x 5 0
def cd_bdF (H k c : Nat) : Nat → Nat → Nat
  | 0, a => a
  | j + 1, a => cd_bdF H k c j (if k ≠ 0 ∧ c.testBit (10 - (j + 1)) = true then a ^^^ cd_fc H (cd_sx H k (10 - (j + 1))) else a)
def cd_bd (H k c : Nat) : Nat := cd_bdF H k c 10 0
def cd_rdF (R O : Nat → Nat) : Nat → Nat → Nat → Nat × Nat
  | 0, l, t => (l, t)
  | b + 1, l, t => if R b = 0 then cd_rdF R O b l t else if l.testBit b = true then cd_rdF R O b (l ^^^ R b) (t ^^^ O b) else cd_rdF R O b l t
def cd_rd (R O : Nat → Nat) (c : Nat) : Nat × Nat := cd_rdF R O 10 c 0
def cd_up (C : Nat → Nat) (b c : Nat) : Nat → Nat := fun j => if j = b then c else C j
def cd_acF (C : Nat → Nat) : Nat → Nat → (Nat → Nat)
  | 0, _ => C
  | b + 1, c => if c.testBit b = true then (if C b = 0 then cd_up C b c else cd_acF C b (c ^^^ C b)) else cd_acF C b c
def cd_ac (C : Nat → Nat) (c : Nat) : Nat → Nat := cd_acF C 10 c
def cd_hiF (x : Nat) : Nat → Nat → Nat
  | 0, t => t
  | j + 1, t => cd_hiF x j (if x.testBit (10 - (j + 1)) = true then 10 - (j + 1) else t)
def cd_hi (x : Nat) : Nat := cd_hiF x 10 0
/-- the elimination's loop over n simplices of dimension k: rank, rows, origins, cycles -/
def cd_elF (H k n : Nat) : Nat → Nat → (Nat → Nat) → (Nat → Nat) → (Nat → Nat) → Nat × (Nat → Nat) × (Nat → Nat) × (Nat → Nat)
  | 0, r, R, O, C => (r, R, O, C)
  | j + 1, r, R, O, C =>
    cd_fo (cd_bd H k (2 ^ (n - (j + 1)))) (fun f =>
      cd_fo (cd_rd R O f).1 (fun l =>
        cd_fo ((cd_rd R O f).2 ^^^ 2 ^ (n - (j + 1))) (fun t =>
          if l = 0 then cd_elF H k n j r R O (cd_ac C t)
          else cd_fo (cd_hi l) (fun h => cd_elF H k n j (r + 1) (cd_up R h l) (cd_up O h t) C))))
def cd_z : Nat → Nat := fun _ => 0
def cd_n (H k : Nat) : Nat := if 4 < k then 0 else cd_cn H k
def cd_el (H k : Nat) : Nat × (Nat → Nat) × (Nat → Nat) × (Nat → Nat) := cd_elF H k (cd_n H k) (cd_n H k) 0 cd_z cd_z cd_z
def cd_ho (H k : Nat) : Int32 := nI (cd_cn H k) - nI (cd_el H k).1 - nI (cd_el H (k + 1)).1
def cd_lf (H k c : Nat) : Nat × Nat := cd_rd (cd_el H (k + 1)).2.1 (cd_el H (k + 1)).2.2.1 c
def cd_flF (C : Nat → Nat) : Nat → Nat → Nat
  | 0, a => a
  | b + 1, a => if C b = 0 then cd_flF C b a else if a.testBit b = true then cd_flF C b (a ^^^ C b) else cd_flF C b a
def cd_fl (H k c : Nat) : Nat := cd_flF (cd_el H (k + 1)).2.2.2 10 (cd_lf H k c).2
def cd_alF (H : Nat) : Nat → Int32 → Int32
  | 0, a => a
  | j + 1, a => cd_alF H j (if (5 - (j + 1)) % 2 = 0 then a + nI (cd_cn H (5 - (j + 1))) else a + -nI (cd_cn H (5 - (j + 1))))
def cd_al (H : Nat) : Int32 := cd_alF H 5 0
def cd_adF (x : Nat) : Nat → Nat → Nat → Nat × Nat
  | 0, H, n => (n, H)
  | j + 1, H, n => if (32 - (j + 1)) &&& x = 32 - (j + 1) then (if H.testBit (32 - (j + 1)) = true then cd_adF x j H n else cd_adF x j (H ^^^ 2 ^ (32 - (j + 1))) (n + 1)) else cd_adF x j H n
def cd_ad (H x : Nat) : Nat × Nat := cd_adF x 31 H 0
def cd_rmF (x : Nat) : Nat → Nat → Nat → Nat × Nat
  | 0, H, n => (n, H)
  | j + 1, H, n => if (32 - (j + 1)) &&& x = x then (if H.testBit (32 - (j + 1)) = true then cd_rmF x j (H ^^^ 2 ^ (32 - (j + 1))) (n + 1) else cd_rmF x j H n) else cd_rmF x j H n
def cd_rm (H x : Nat) : Nat × Nat := cd_rmF x 31 H 0

/-! ===== Int32 against naturals ===== -/
theorem cd_and (a b : Nat) : nI a &&& nI b = nI (a &&& b) := by
  apply Int32.toBitVec_inj.1
  show BitVec.ofNat 32 a &&& BitVec.ofNat 32 b = BitVec.ofNat 32 (a &&& b)
  apply BitVec.eq_of_getLsbD_eq
  intro i hi
  simp [hi]
theorem cd_xor (a b : Nat) : nI a ^^^ nI b = nI (a ^^^ b) := by
  apply Int32.toBitVec_inj.1
  show BitVec.ofNat 32 a ^^^ BitVec.ofNat 32 b = BitVec.ofNat 32 (a ^^^ b)
  apply BitVec.eq_of_getLsbD_eq
  intro i hi
  simp [hi]
theorem cd_su : ∀ n, n < 32 → (((nI n).toUInt32 &&& Int32.toUInt32 31).toBitVec % 32).toNat = n := by decide +kernel
theorem cd_bit {n j : Nat} (hn : n < 2 ^ 31) (hj : j < 32) : (((nI n).toUInt32 >>> ((nI j).toUInt32 &&& Int32.toUInt32 31)).toInt32 &&& 1) = 0 ↔ n.testBit j = false := by
  rw [pk_ushrN (by omega) (nI j) j (cd_su j hj)]
  have hd : n / 2 ^ j ≤ n := Nat.div_le_self _ _
  show nI (n / 2 ^ j) &&& nI 1 = 0 ↔ _
  rw [cd_and, Nat.and_one_is_mod, ← nI_0, nI_eq (by omega) (by omega), Nat.testBit_eq_decide_div_mod_eq, decide_eq_false_iff_not]
  generalize n / 2 ^ j = z
  omega
theorem cd_shl : ∀ p, p < 31 → (1 : Int32) <<< (nI p &&& 31) = nI (2 ^ p) := by decide +kernel
theorem cd_p31 {p : Nat} (h : p < 31) : 2 ^ p < 2 ^ 31 := Nat.pow_lt_pow_right (by omega) h
theorem cd_x31 {a b : Nat} (ha : a < 2 ^ 31) (hb : b < 2 ^ 31) : a ^^^ b < 2 ^ 31 := Nat.xor_lt_two_pow ha hb
theorem cd_add0 (x : Int32) : x + 0 = x := Int32.add_zero x
theorem cd_e0 {n : Nat} (h : n < 2 ^ 31) : nI n = 0 ↔ n = 0 := by
  rw [← nI_0, nI_eq h (by omega)]
theorem cd_adC : ∀ s, s < 32 → ∀ x, x < 32 → ((nI s &&& (nI x ^^^ (-1))) = 0 ↔ s &&& x = s) := by decide +kernel
theorem cd_rmC : ∀ s, s < 32 → ∀ x, x < 32 → ((nI x &&& (nI s ^^^ (-1))) = 0 ↔ s &&& x = x) := by decide +kernel
theorem cd_off : ∀ x, x < 32 → ∀ i, i < 5 → x.testBit i = true → nI x &&& (((1 : Int32) <<< (nI i &&& 31)) ^^^ (-1)) = nI (x ^^^ 2 ^ i) ∧ x ^^^ 2 ^ i < 32 := by decide +kernel

/-! ===== bounds ===== -/
theorem cd_T_le (H q x : Nat) : ∀ j, cd_T H q x j ≤ j := by
  intro j
  induction j with
  | zero => exact Nat.le_refl 0
  | succ j ih =>
    show (if cd_hit H q (x - (j + 1)) = true then 1 else 0) + cd_T H q x j ≤ j + 1
    split <;> omega
theorem cd_cn_le (H k : Nat) : cd_cn H k ≤ 31 := cd_T_le _ _ _ _
theorem cd_n_le (H k : Nat) : cd_n H k ≤ 31 := by
  unfold cd_n
  split
  · omega
  · exact cd_cn_le H k
theorem cd_pl_lt {H x : Nat} (hx : x < 32) : cd_pl H x < 31 := by
  have := cd_T_le H (cd_pt x) x (x - 1)
  unfold cd_pl
  omega
theorem cd_sxF_lt (H q : Nat) : ∀ j r, j ≤ 31 → cd_sxF H q j r < 32 := by
  intro j
  induction j with
  | zero => intro r _; exact (by omega : (0 : Nat) < 32)
  | succ j ih =>
    intro r hj
    unfold cd_sxF
    split
    · split
      · omega
      · exact ih _ (by omega)
    · exact ih _ (by omega)
theorem cd_sxF_ne (H q : Nat) : ∀ j r, j ≤ 31 → r < cd_T H q 32 j → cd_sxF H q j r ≠ 0 := by
  intro j
  induction j with
  | zero => intro r _ h; exact absurd h (by show ¬ r < 0; omega)
  | succ j ih =>
    intro r hj h
    have h' : r < (if cd_hit H q (32 - (j + 1)) = true then 1 else 0) + cd_T H q 32 j := h
    unfold cd_sxF
    split
    · rename_i hc
      rw [if_pos hc] at h'
      split
      · omega
      · exact ih _ (by omega) (by omega)
    · rename_i hc
      rw [if_neg hc] at h'
      exact ih _ (by omega) (by omega)
theorem cd_sx_lt (H k i : Nat) : cd_sx H k i < 32 := cd_sxF_lt _ _ _ _ (by omega)
theorem cd_sx_ne {H k i : Nat} (h : i < cd_cn H k) : cd_sx H k i ≠ 0 := cd_sxF_ne _ _ _ _ (by omega) h
theorem cd_fcF_lt {H x : Nat} (hx : x < 32) : ∀ j a, j ≤ 5 → a < 2 ^ 31 → cd_fcF H x j a < 2 ^ 31 := by
  intro j
  induction j with
  | zero => intro a _ ha; exact ha
  | succ j ih =>
    intro a hj ha
    unfold cd_fcF
    refine ih _ (by omega) ?_
    split
    · rename_i hc
      exact cd_x31 ha (cd_p31 (cd_pl_lt (cd_off x hx (5 - (j + 1)) (by omega) hc).2))
    · exact ha
theorem cd_fc_lt {H x : Nat} (hx : x < 32) : cd_fc H x < 2 ^ 31 := cd_fcF_lt hx _ _ (by omega) (by omega)
theorem cd_bdF_lt {H k c : Nat} : ∀ j a, a < 2 ^ 31 → cd_bdF H k c j a < 2 ^ 31 := by
  intro j
  induction j with
  | zero => intro a ha; exact ha
  | succ j ih =>
    intro a ha
    unfold cd_bdF
    refine ih _ ?_
    split
    · exact cd_x31 ha (cd_fc_lt (cd_sx_lt _ _ _))
    · exact ha
theorem cd_bd_lt (H k c : Nat) : cd_bd H k c < 2 ^ 31 := cd_bdF_lt _ _ (by omega)
theorem cd_hiF_lt {x : Nat} : ∀ j t, j ≤ 10 → t < 10 → cd_hiF x j t < 10 := by
  intro j
  induction j with
  | zero => intro t _ ht; exact ht
  | succ j ih =>
    intro t hj ht
    unfold cd_hiF
    refine ih _ (by omega) ?_
    split <;> omega
theorem cd_hi_lt (x : Nat) : cd_hi x < 10 := cd_hiF_lt _ _ (by omega) (by omega)
end
section
/-! ===== the walks: the private methods ===== -/
def cd_Hd (H : Nat) (a : Nat → Int32) : Prop := ∀ s, s < 32 → (a s = 0 ↔ H.testBit s = false)
def cd_A (R : Nat → Nat) (a : Nat → Int32) : Prop := ∀ b, b < 10 → R b < 2 ^ 31 ∧ a b = nI (R b)
theorem cd_A_up {R : Nat → Nat} {a : Nat → Int32} {h v : Nat} (hA : cd_A R a) (hv : v < 2 ^ 31) : cd_A (cd_up R h v) (upd a h (nI v)) := by
  intro b hb
  by_cases e : b = h
  · subst e
    refine ⟨?_, ?_⟩
    · show (if b = b then v else R b) < 2 ^ 31
      rw [if_pos rfl]
      exact hv
    · rw [pk_us]
      show nI v = nI (if b = b then v else R b)
      rw [if_pos rfl]
  · refine ⟨?_, ?_⟩
    · show (if b = h then v else R b) < 2 ^ 31
      rw [if_neg e]
      exact (hA b hb).1
    · rw [pk_un e]
      show a b = nI (if b = h then v else R b)
      rw [if_neg e]
      exact (hA b hb).2
theorem cd_pt_lt (s : Nat) : cd_pt s < 2 ^ 31 := by
  unfold cd_pt
  have := Nat.mod_lt (55157063682984551670960690248 / 8 ^ s) (show 8 > 0 by omega)
  omega
theorem cd_hit_f {H s : Nat} (q : Nat) (h : H.testBit s = false) : ¬ cd_hit H q s = true := by
  unfold cd_hit
  rw [h]
  simp
theorem cd_hit_e {H s q : Nat} (h : H.testBit s = true) (e : cd_pt s = q) : cd_hit H q s = true := by
  unfold cd_hit
  rw [h, e]
  simp
theorem cd_hit_n {H s q : Nat} (e : cd_pt s ≠ q) : ¬ cd_hit H q s = true := by
  unfold cd_hit
  simp [e]
theorem cd_nz {a : Int32} {b : Bool} (h : a = 0 ↔ b = false) (hb : b = true) : ¬ a = 0 := by
  intro z
  rw [h.mp z] at hb
  exact absurd hb (by decide)
def cd_ptI (x : Int32) : Int32 := ((((0 + ((x.toUInt32 >>> ((0 : Int32).toUInt32 &&& Int32.toUInt32 31)).toInt32 &&& 1)) + ((x.toUInt32 >>> ((1 : Int32).toUInt32 &&& Int32.toUInt32 31)).toInt32 &&& 1)) + ((x.toUInt32 >>> ((2 : Int32).toUInt32 &&& Int32.toUInt32 31)).toInt32 &&& 1)) + ((x.toUInt32 >>> ((3 : Int32).toUInt32 &&& Int32.toUInt32 31)).toInt32 &&& 1)) + ((x.toUInt32 >>> ((4 : Int32).toUInt32 &&& Int32.toUInt32 31)).toInt32 &&& 1)
theorem cd_ptE : ∀ s, s < 32 → cd_ptI (nI s) = nI (cd_pt s) := by decide +kernel
theorem cd_points {post : Int32 → Prop} {s : Nat} (hs : s < 32) (h : post (nI (cd_pt s))) : wpX_points post () (nI s) := by
  have h' : post (cd_ptI (nI s)) := by
    rw [cd_ptE s hs]
    exact h
  exact ⟨6, br_f (by decide) (nm_e (nm_r (e' := (1 : Int32)) (by decide) (br_f (by decide) (nm_e (nm_r (e' := (2 : Int32)) (by decide) (br_f (by decide) (nm_e (nm_r (e' := (3 : Int32)) (by decide) (br_f (by decide) (nm_e (nm_r (e' := (4 : Int32)) (by decide) (br_f (by decide) (nm_e (nm_r (e' := (5 : Int32)) (by decide) (br_t (by decide) h')))))))))))))))⟩
theorem cd_T_s {H q x j s : Nat} (e : x - (j + 1) = s) : cd_T H q x (j + 1) = (if cd_hit H q s = true then 1 else 0) + cd_T H q x j := by
  subst e
  rfl

section
variable {post : Int32 → Prop} {rk lf tk : Int32} {a1 a2 a3 a4 : Nat → Int32} {H : Nat}
theorem cd_countF {k : Nat} (hk : k ≤ 4) (hS : cd_Hd H a1) : ∀ j s n, s + j = 32 → post (nI (n + cd_T H (k + 1) 32 j)) → wX_countOf_4 post (nI k) rk lf tk a1 a2 a3 a4 (j + 1) (nI n) (nI s) := by
  intro j
  induction j with
  | zero =>
    intro s n e h
    have e' : s = 32 := by omega
    subst e'
    exact br_t (by decide) h
  | succ j ih =>
    intro s n e h
    have hs : s < 32 := by omega
    rw [cd_T_s (show 32 - (j + 1) = s by omega)] at h
    refine br_f (nI_ge (b := 32) hs (by decide)) ⟨pk_in s 32 hs, ?_⟩
    rw [nI_clamp (show s < 2 ^ 31 by omega)]
    cases hb : H.testBit s with
    | false =>
      rw [if_neg (cd_hit_f _ hb), Nat.zero_add] at h
      exact br_t ((hS s hs).mpr hb) (nm_r (cd_add0 _) (nm_r (nI_1 s) (ih (s + 1) n (by omega) h)))
    | true =>
      refine br_f (cd_nz (hS s hs) hb) (cd_points hs ?_)
      refine pk_eq (cd_pt s) (k + 1) (fun z => ?_) (fun z => ?_) rfl (nI_1 k) (cd_pt_lt s) (by omega)
      · rw [if_pos (cd_hit_e hb z), ← Nat.add_assoc] at h
        exact nm_r (nI_1 n) (nm_r (nI_1 s) (ih (s + 1) (n + 1) (by omega) h))
      · rw [if_neg (cd_hit_n z), Nat.zero_add] at h
        exact nm_r (cd_add0 _) (nm_r (nI_1 s) (ih (s + 1) n (by omega) h))
theorem cd_count {k : Nat} (hk : k ≤ 4) (hS : cd_Hd H a1) (h : post (nI (cd_cn H k))) : wpX_countOf post (rk, lf, tk, a1, a2, a3, a4) (nI k) := by
  refine ⟨32, cd_countF hk hS 31 1 0 rfl ?_⟩
  rw [Nat.zero_add]
  exact h
theorem cd_placeF {x q : Nat} (hx : x < 32) (hq : q < 2 ^ 31) (hS : cd_Hd H a1) : ∀ j s n, s < 33 → j = x - s → post (nI (n + cd_T H q x j)) → wX_placeOf_10 post (nI x) (nI q) rk lf tk a1 a2 a3 a4 (j + 1) (nI n) (nI s) := by
  intro j
  induction j with
  | zero =>
    intro s n _ e h
    exact br_t (nI_le (by omega) (by omega)) h
  | succ j ih =>
    intro s n _ e h
    have hs : s < x := by omega
    have hs' : s < 32 := by omega
    rw [cd_T_s (show x - (j + 1) = s by omega)] at h
    refine br_f (nI_ge hs (by omega)) ⟨pk_in s 32 hs', ?_⟩
    rw [nI_clamp (show s < 2 ^ 31 by omega)]
    cases hb : H.testBit s with
    | false =>
      rw [if_neg (cd_hit_f _ hb), Nat.zero_add] at h
      exact br_t ((hS s hs').mpr hb) (nm_r (cd_add0 _) (nm_r (nI_1 s) (ih (s + 1) n (by omega) (by omega) h)))
    | true =>
      refine br_f (cd_nz (hS s hs') hb) (cd_points hs' ?_)
      refine pk_eq (cd_pt s) q (fun z => ?_) (fun z => ?_) rfl rfl (cd_pt_lt s) hq
      · rw [if_pos (cd_hit_e hb z), ← Nat.add_assoc] at h
        exact nm_r (nI_1 n) (nm_r (nI_1 s) (ih (s + 1) (n + 1) (by omega) (by omega) h))
      · rw [if_neg (cd_hit_n z), Nat.zero_add] at h
        exact nm_r (cd_add0 _) (nm_r (nI_1 s) (ih (s + 1) n (by omega) (by omega) h))
theorem cd_place {y : Int32} {x : Nat} (hy : y = nI x) (hx : x < 32) (hS : cd_Hd H a1) (h : post (nI (cd_pl H x))) : wpX_placeOf post (rk, lf, tk, a1, a2, a3, a4) y := by
  subst hy
  refine cd_points hx ⟨x - 1 + 1, cd_placeF hx (cd_pt_lt x) hS (x - 1) 1 0 (by omega) rfl ?_⟩
  rw [Nat.zero_add]
  exact h
theorem cd_simpF {k : Nat} (hk : k ≤ 4) (hS : cd_Hd H a1) : ∀ j s r, s + j = 32 → r < 2 ^ 31 → cd_sxF H (k + 1) j r ≠ 0 → post (nI (cd_sxF H (k + 1) j r)) → wX_simplexAt_5 post (nI k) rk lf tk a1 a2 a3 a4 (j + 1) (nI r) (nI s) := by
  intro j
  induction j with
  | zero =>
    intro s r _ _ h0 _
    exact absurd rfl h0
  | succ j ih =>
    intro s r e hr h0 h
    have hs : s < 32 := by omega
    have hX : cd_sxF H (k + 1) (j + 1) r = if cd_hit H (k + 1) s = true then (if r = 0 then s else cd_sxF H (k + 1) j (r - 1)) else cd_sxF H (k + 1) j r := by
      have e' : 32 - (j + 1) = s := by omega
      subst e'
      rfl
    rw [hX] at h h0
    refine br_f (nI_ge (b := 32) hs (by decide)) ⟨pk_in s 32 hs, ?_⟩
    rw [nI_clamp (show s < 2 ^ 31 by omega)]
    cases hb : H.testBit s with
    | false =>
      rw [if_neg (cd_hit_f _ hb)] at h h0
      exact br_t ((hS s hs).mpr hb) (nm_r (nI_1 s) (ih (s + 1) r (by omega) hr h0 h))
    | true =>
      refine br_f (cd_nz (hS s hs) hb) (cd_points hs ?_)
      refine pk_eq (cd_pt s) (k + 1) (fun z => ?_) (fun z => ?_) rfl (nI_1 k) (cd_pt_lt s) (by omega)
      · rw [if_pos (cd_hit_e hb z)] at h h0
        refine pk_eq r 0 (fun y => ?_) (fun y => ?_) rfl rfl hr (by omega)
        · rw [if_pos y] at h
          exact h
        · rw [if_neg y] at h h0
          exact nm_r (sb_m1 (by omega)) (nm_r (nI_1 s) (ih (s + 1) (r - 1) (by omega) (by omega) h0 h))
      · rw [if_neg (cd_hit_n z)] at h h0
        exact nm_r (nI_1 s) (ih (s + 1) r (by omega) hr h0 h)
theorem cd_simp {k i : Nat} (hk : k ≤ 4) (hS : cd_Hd H a1) (hi : i < cd_cn H k) (h : post (nI (cd_sx H k i))) : wpX_simplexAt post (rk, lf, tk, a1, a2, a3, a4) (nI k) (nI i) :=
  ⟨32, cd_simpF hk hS 31 1 i rfl (by have := cd_cn_le H k; omega) (cd_sx_ne hi) h⟩
theorem cd_faceF {x : Nat} (hx : x < 32) (hS : cd_Hd H a1) : ∀ j i a, i + j = 5 → post (nI (cd_fcF H x j a)) → wX_facesOf_4 post (nI x) rk lf tk a1 a2 a3 a4 (j + 1) (nI a) (nI i) := by
  intro j
  induction j with
  | zero =>
    intro i a e h
    have e' : i = 5 := by omega
    subst e'
    exact br_t (by decide) h
  | succ j ih =>
    intro i a e h
    have hi : i < 5 := by omega
    have hX : cd_fcF H x (j + 1) a = cd_fcF H x j (if x.testBit i = true then a ^^^ 2 ^ cd_pl H (x ^^^ 2 ^ i) else a) := by
      have e' : 5 - (j + 1) = i := by omega
      subst e'
      rfl
    rw [hX] at h
    refine br_f (nI_ge (b := 5) hi (by decide)) ?_
    cases hb : x.testBit i with
    | false =>
      rw [if_neg (by rw [hb]; decide)] at h
      exact br_t ((cd_bit (by omega) (by omega)).mpr hb) (nm_r (nI_1 i) (ih (i + 1) a (by omega) h))
    | true =>
      rw [if_pos hb] at h
      have ho := cd_off x hx i hi hb
      refine br_f (cd_nz (cd_bit (by omega) (by omega)) hb) (cd_place ho.1 ho.2 hS ?_)
      refine nm_r (e' := nI (a ^^^ 2 ^ cd_pl H (x ^^^ 2 ^ i))) ?_ (nm_r (nI_1 i) (ih (i + 1) _ (by omega) h))
      rw [cd_shl _ (cd_pl_lt ho.2), cd_xor]
theorem cd_face {x : Nat} (hx : x < 32) (hS : cd_Hd H a1) (h : post (nI (cd_fc H x))) : wpX_facesOf post (rk, lf, tk, a1, a2, a3, a4) (nI x) :=
  ⟨6, cd_faceF hx hS 5 0 0 rfl h⟩
theorem cd_bounF {k c : Nat} (hk : k ≤ 4) (hc : c < 2 ^ 31) (hS : cd_Hd H a1) (hi : ∀ i, i < 10 → c.testBit i = true → i < cd_cn H k) : ∀ j i a, i + j = 10 → post (nI (cd_bdF H k c j a)) → wX_boundaryOf_5 post (nI k) (nI c) rk lf tk a1 a2 a3 a4 (j + 1) (nI a) (nI i) := by
  intro j
  induction j with
  | zero =>
    intro i a e h
    have e' : i = 10 := by omega
    subst e'
    exact br_t (by decide) h
  | succ j ih =>
    intro i a e h
    have hi' : i < 10 := by omega
    have hX : cd_bdF H k c (j + 1) a = cd_bdF H k c j (if k ≠ 0 ∧ c.testBit i = true then a ^^^ cd_fc H (cd_sx H k i) else a) := by
      have e' : 10 - (j + 1) = i := by omega
      subst e'
      rfl
    rw [hX] at h
    refine br_f (nI_ge (b := 10) hi' (by decide)) ?_
    refine pk_le k 0 (fun z => ?_) (fun z => ?_) rfl rfl (by omega) (by omega)
    · rw [if_neg (fun y => y.1 (by omega))] at h
      exact nm_r (nI_1 i) (ih (i + 1) a (by omega) h)
    · cases hb : c.testBit i with
      | false =>
        rw [if_neg (fun y => absurd (hb.symm.trans y.2) (by decide))] at h
        exact br_t ((cd_bit hc (by omega)).mpr hb) (nm_r (nI_1 i) (ih (i + 1) a (by omega) h))
      | true =>
        rw [if_pos ⟨by omega, hb⟩] at h
        exact br_f (cd_nz (cd_bit hc (by omega)) hb) (cd_simp hk hS (hi i hi' hb) (cd_face (cd_sx_lt H k i) hS (nm_r (cd_xor _ _) (nm_r (nI_1 i) (ih (i + 1) _ (by omega) h)))))
theorem cd_boun {y : Int32} {k c : Nat} (hy : y = nI c) (hk : k ≤ 4) (hc : c < 2 ^ 31) (hS : cd_Hd H a1) (hi : ∀ i, i < 10 → c.testBit i = true → i < cd_cn H k) (h : post (nI (cd_bd H k c))) : wpX_boundaryOf post (rk, lf, tk, a1, a2, a3, a4) (nI k) y := by
  subst hy
  exact ⟨11, cd_bounF hk hc hS hi 10 0 0 rfl h⟩
theorem cd_highF {x : Nat} (hx : x < 2 ^ 31) : ∀ j i t, i + j = 10 → post (nI (cd_hiF x j t)) → wX_highest_4 post (nI x) (j + 1) (nI t) (nI i) := by
  intro j
  induction j with
  | zero =>
    intro i t e h
    have e' : i = 10 := by omega
    subst e'
    exact br_t (by decide) h
  | succ j ih =>
    intro i t e h
    have hi : i < 10 := by omega
    have hX : cd_hiF x (j + 1) t = cd_hiF x j (if x.testBit i = true then i else t) := by
      have e' : 10 - (j + 1) = i := by omega
      subst e'
      rfl
    rw [hX] at h
    refine br_f (nI_ge (b := 10) hi (by decide)) ?_
    cases hb : x.testBit i with
    | false =>
      rw [if_neg (by rw [hb]; decide)] at h
      exact br_t ((cd_bit hx (by omega)).mpr hb) (nm_r (nI_1 i) (ih (i + 1) t (by omega) h))
    | true =>
      rw [if_pos hb] at h
      exact br_f (cd_nz (cd_bit hx (by omega)) hb) (nm_r (nI_1 i) (ih (i + 1) i (by omega) h))
theorem cd_high {x : Nat} (hx : x < 2 ^ 31) (h : post (nI (cd_hi x))) : wpX_highest post () (nI x) :=
  ⟨11, cd_highF hx 10 0 0 rfl h⟩
end
end
section
/-! ===== the walks: reduce, addCycle, eliminate ===== -/
section
variable {post : St2 → Prop} {rk lf tk : Int32} {a1 a2 a3 a4 : Nat → Int32} {H : Nat} {R O C : Nat → Nat}
theorem cd_rdF_s (b l t : Nat) : cd_rdF R O (b + 1) l t = if R b = 0 then cd_rdF R O b l t else if l.testBit b = true then cd_rdF R O b (l ^^^ R b) (t ^^^ O b) else cd_rdF R O b l t := rfl
theorem cd_rdF_lt (h2 : cd_A R a2) (h3 : cd_A O a3) : ∀ j l t, j ≤ 10 → l < 2 ^ 31 → t < 2 ^ 31 → (cd_rdF R O j l t).1 < 2 ^ 31 ∧ (cd_rdF R O j l t).2 < 2 ^ 31 := by
  intro j
  induction j with
  | zero => intro l t _ hl ht; exact ⟨hl, ht⟩
  | succ b ih =>
    intro l t hj hl ht
    rw [cd_rdF_s]
    split
    · exact ih l t (by omega) hl ht
    · split
      · exact ih _ _ (by omega) (cd_x31 hl (h2 b (by omega)).1) (cd_x31 ht (h3 b (by omega)).1)
      · exact ih l t (by omega) hl ht
theorem cd_redF (h2 : cd_A R a2) (h3 : cd_A O a3) : ∀ j l t, j ≤ 10 → l < 2 ^ 31 → post (rk, nI (cd_rdF R O j l t).1, nI (cd_rdF R O j l t).2, a1, a2, a3, a4) → wX_reduce_13 post rk a1 a2 a3 a4 (j + 1) (nI j + (-1)) (nI l) (nI t) := by
  intro j
  induction j with
  | zero =>
    intro l t _ _ h
    exact br_t (by decide) h
  | succ b ih =>
    intro l t hj hl h
    have hb : b < 10 := by omega
    rw [cd_rdF_s] at h
    rw [pk_m1]
    refine br_f (nI_pos (by omega)) ⟨pk_in b 10 hb, ?_⟩
    rw [nI_clamp (show b < 2 ^ 31 by omega), (h2 b hb).2, (h3 b hb).2]
    refine br_c (fun z => ?_) (fun z => ?_)
    · rw [if_pos ((cd_e0 (h2 b hb).1).mp z)] at h
      exact nm_e (ih l t (by omega) hl h)
    · rw [if_neg (fun y => z ((cd_e0 (h2 b hb).1).mpr y))] at h
      cases hc : l.testBit b with
      | false =>
        rw [if_neg (by rw [hc]; decide)] at h
        exact br_t ((cd_bit hl (by omega)).mpr hc) (nm_e (ih l t (by omega) hl h))
      | true =>
        rw [if_pos hc] at h
        exact br_f (cd_nz (cd_bit hl (by omega)) hc) ⟨pk_in b 10 hb, nm_r (cd_xor _ _) ⟨pk_in b 10 hb, nm_r (cd_xor _ _) (nm_e (ih _ _ (by omega) (cd_x31 hl (h2 b hb).1) h))⟩⟩
theorem cd_red {c : Nat} (hc : c < 2 ^ 31) (h2 : cd_A R a2) (h3 : cd_A O a3) (h : post (rk, nI (cd_rd R O c).1, nI (cd_rd R O c).2, a1, a2, a3, a4)) : wpX_reduce post (rk, lf, tk, a1, a2, a3, a4) (nI c) :=
  ⟨11, cd_redF h2 h3 10 c 0 (by omega) hc h⟩
theorem cd_rd_lt {c : Nat} (hc : c < 2 ^ 31) (h2 : cd_A R a2) (h3 : cd_A O a3) : (cd_rd R O c).1 < 2 ^ 31 ∧ (cd_rd R O c).2 < 2 ^ 31 := cd_rdF_lt h2 h3 10 c 0 (by omega) hc (by omega)
theorem cd_acF_s (b c : Nat) : cd_acF C (b + 1) c = if c.testBit b = true then (if C b = 0 then cd_up C b c else cd_acF C b (c ^^^ C b)) else cd_acF C b c := rfl
theorem cd_addcF (h4 : cd_A C a4) : ∀ j c, j ≤ 10 → c < 2 ^ 31 → (∀ a4', cd_A (cd_acF C j c) a4' → post (rk, lf, tk, a1, a2, a3, a4')) → wX_addCycle_5 post rk lf tk a1 a2 a3 a4 (j + 1) (nI c) (nI j + (-1)) := by
  intro j
  induction j with
  | zero =>
    intro c _ _ h
    exact br_t (by decide) (h a4 h4)
  | succ b ih =>
    intro c hj hc h
    have hb : b < 10 := by omega
    rw [cd_acF_s] at h
    rw [pk_m1]
    refine br_f (nI_pos (by omega)) ?_
    cases hd : c.testBit b with
    | false =>
      rw [if_neg (by rw [hd]; decide)] at h
      exact br_t ((cd_bit hc (by omega)).mpr hd) (nm_e (ih c (by omega) hc h))
    | true =>
      rw [if_pos hd] at h
      refine br_f (cd_nz (cd_bit hc (by omega)) hd) ⟨pk_in b 10 hb, ?_⟩
      rw [nI_clamp (show b < 2 ^ 31 by omega), (h4 b hb).2]
      refine br_c (fun z => ?_) (fun z => ?_)
      · rw [if_pos ((cd_e0 (h4 b hb).1).mp z)] at h
        exact ⟨pk_in b 10 hb, nm_e (h _ (cd_A_up h4 hc))⟩
      · rw [if_neg (fun y => z ((cd_e0 (h4 b hb).1).mpr y))] at h
        exact ⟨pk_in b 10 hb, nm_r (cd_xor _ _) (nm_e (ih _ (by omega) (cd_x31 hc (h4 b hb).1) h))⟩
theorem cd_addc {c : Nat} (hc : c < 2 ^ 31) (h4 : cd_A C a4) (h : ∀ a4', cd_A (cd_ac C c) a4' → post (rk, lf, tk, a1, a2, a3, a4')) : wpX_addCycle post (rk, lf, tk, a1, a2, a3, a4) (nI c) :=
  ⟨11, cd_addcF h4 10 c (by omega) hc h⟩
end

theorem cd_tb {i n : Nat} : (2 ^ n).testBit i = true → i = n := by
  intro h
  rw [Nat.testBit_two_pow] at h
  exact (of_decide_eq_true h).symm
theorem cd_elF_s {H k n j i r : Nat} {R O C : Nat → Nat} (e : n - (j + 1) = i) : cd_elF H k n (j + 1) r R O C =
    if (cd_rd R O (cd_bd H k (2 ^ i))).1 = 0 then cd_elF H k n j r R O (cd_ac C ((cd_rd R O (cd_bd H k (2 ^ i))).2 ^^^ 2 ^ i))
    else cd_elF H k n j (r + 1) (cd_up R (cd_hi (cd_rd R O (cd_bd H k (2 ^ i))).1) (cd_rd R O (cd_bd H k (2 ^ i))).1) (cd_up O (cd_hi (cd_rd R O (cd_bd H k (2 ^ i))).1) ((cd_rd R O (cd_bd H k (2 ^ i))).2 ^^^ 2 ^ i)) C := by
  subst e
  rw [cd_elF, cd_fo_eq, cd_fo_eq, cd_fo_eq, cd_fo_eq]
section
variable {post : St2 → Prop} {a1 : Nat → Int32} {H : Nat}
theorem cd_elimF {k n : Nat} (hk : k ≤ 4) (hn : n = cd_cn H k) (hS : cd_Hd H a1) : ∀ j i r R O C lf tk a2 a3 a4, i + j = n → cd_A R a2 → cd_A O a3 → cd_A C a4 →
    (∀ lf tk a2 a3 a4, cd_A (cd_elF H k n j r R O C).2.1 a2 → cd_A (cd_elF H k n j r R O C).2.2.1 a3 → cd_A (cd_elF H k n j r R O C).2.2.2 a4 → post (nI (cd_elF H k n j r R O C).1, lf, tk, a1, a2, a3, a4)) →
    wX_eliminate_57 post (nI k) (nI n) (j + 1) (nI i) (nI r) lf tk a1 a2 a3 a4 := by
  have hn31 : n ≤ 31 := by
    rw [hn]
    exact cd_cn_le H k
  intro j
  induction j with
  | zero =>
    intro i r R O C lf tk a2 a3 a4 e h2 h3 h4 h
    exact br_t (nI_le (by omega) (by omega)) (h lf tk a2 a3 a4 h2 h3 h4)
  | succ j ih =>
    intro i r R O C lf tk a2 a3 a4 e h2 h3 h4 h
    have hi : i < n := by omega
    have hi31 : i < 31 := by omega
    have hp := cd_p31 hi31
    have hl := cd_rd_lt (cd_bd_lt H k (2 ^ i)) h2 h3
    rw [cd_elF_s (show n - (j + 1) = i by omega)] at h
    refine br_f (nI_ge hi (by omega)) (cd_boun (c := 2 ^ i) (cd_shl i hi31) hk hp hS (fun i' _ hb => by rw [cd_tb hb, ← hn]; exact hi) (cd_red (cd_bd_lt H k (2 ^ i)) h2 h3 ?_))
    have ht := cd_x31 hl.2 hp
    refine nm_r (e' := nI ((cd_rd R O (cd_bd H k (2 ^ i))).2 ^^^ 2 ^ i)) (by rw [cd_shl i hi31, cd_xor]) ?_
    refine br_c (fun z => ?_) (fun z => ?_)
    · rw [if_pos ((cd_e0 hl.1).mp z)] at h
      exact cd_addc ht h4 (fun a4' h4' => nm_r (nI_1 i) (ih (i + 1) r _ _ _ _ _ _ _ _ (by omega) h2 h3 h4' h))
    · rw [if_neg (fun y => z ((cd_e0 hl.1).mpr y))] at h
      have hh := cd_hi_lt (cd_rd R O (cd_bd H k (2 ^ i))).1
      refine cd_high hl.1 ⟨pk_in _ 10 hh, ?_⟩
      rw [nI_clamp (by omega)]
      exact nm_e ⟨pk_in _ 10 hh, nm_e (nm_r (nI_1 r) (nm_r (nI_1 i) (ih (i + 1) (r + 1) _ _ _ _ _ _ _ _ (by omega) (cd_A_up h2 hl.1) (cd_A_up h3 ht) h4 h)))⟩
theorem cd_elimZ {k : Nat} {rk lf tk : Int32} {a2 a3 a4 : Nat → Int32} {P : (Nat → Int32) → (Nat → Int32) → (Nat → Int32) → Prop}
    (hP : ∀ a2 a3 a4, cd_A cd_z a2 → cd_A cd_z a3 → cd_A cd_z a4 → P a2 a3 a4)
    (hx : ∀ n a2 a3 a4, P a2 a3 a4 → wX_eliminate_7 post (nI k) rk lf tk (n + 1) (nI 10) a1 a2 a3 a4) :
    ∃ n, wX_eliminate_7 post (nI k) rk lf tk n (nI 0) a1 a2 a3 a4 := by
  have U : ∀ {i : Nat} {a : Nat → Int32}, i < 10 → (∀ b, b < i → a b = 0) → ∀ b, b < i + 1 → upd a (nI i).toNatClampNeg 0 b = 0 := by
    intro i a hi h b hb
    rw [nI_clamp (by omega)]
    by_cases e : b = i
    · rw [e, pk_us]
    · rw [pk_un e]
      exact h b (by omega)
  have V : ∀ {a : Nat → Int32}, (∀ b, b < 10 → a b = 0) → cd_A cd_z a := fun h b hb => ⟨(by omega : (0 : Nat) < 2 ^ 31), h b hb⟩
  exact pk_loop (σ := (Nat → Int32) × (Nat → Int32) × (Nat → Int32)) (fun n i s => wX_eliminate_7 post (nI k) rk lf tk n (nI i) a1 s.1 s.2.1 s.2.2)
    (fun i s => (∀ b, b < i → s.1 b = 0) ∧ (∀ b, b < i → s.2.1 b = 0) ∧ (∀ b, b < i → s.2.2 b = 0)) 10 0 (a2, a3, a4) (by omega)
    ⟨fun b hb => absurd hb (by omega), fun b hb => absurd hb (by omega), fun b hb => absurd hb (by omega)⟩
    (fun n s h => hx n s.1 s.2.1 s.2.2 (hP _ _ _ (V h.1) (V h.2.1) (V h.2.2)))
    (fun n i s hi h hw => br_f (nI_ge (b := 10) hi (by decide)) ⟨pk_in i 10 hi, nm_e ⟨pk_in i 10 hi, nm_e ⟨pk_in i 10 hi, nm_e (nm_r (nI_1 i) (hw (_, _, _) ⟨U hi h.1, U hi h.2.1, U hi h.2.2⟩))⟩⟩⟩)
theorem cd_elim {y : Int32} {k : Nat} {rk lf tk : Int32} {a2 a3 a4 : Nat → Int32} (hy : y = nI k) (hk : k ≤ 5) (hS : cd_Hd H a1)
    (h : ∀ lf tk a2 a3 a4, cd_A (cd_el H k).2.1 a2 → cd_A (cd_el H k).2.2.1 a3 → cd_A (cd_el H k).2.2.2 a4 → post (nI (cd_el H k).1, lf, tk, a1, a2, a3, a4)) :
    wpX_eliminate post (rk, lf, tk, a1, a2, a3, a4) y := by
  subst hy
  refine cd_elimZ (P := fun a2 a3 a4 => cd_A cd_z a2 ∧ cd_A cd_z a3 ∧ cd_A cd_z a4) (fun a2 a3 a4 h2 h3 h4 => ⟨h2, h3, h4⟩) (fun n a2 a3 a4 hz => ?_)
  refine br_t (by decide) ?_
  refine pk_le k 4 (fun z => ?_) (fun z => ?_) rfl rfl (by omega) (by omega)
  · have en : cd_n H k = cd_cn H k := by
      unfold cd_n
      rw [if_neg (by omega)]
    unfold cd_el at h
    rw [en] at h
    exact cd_count z hS ⟨cd_cn H k + 1, cd_elimF z rfl hS (cd_cn H k) 0 0 cd_z cd_z cd_z _ _ _ _ _ (by omega) hz.1 hz.2.1 hz.2.2 h⟩
  · have en : cd_n H k = 0 := by
      unfold cd_n
      rw [if_pos z]
    unfold cd_el at h
    rw [en] at h
    exact ⟨1, br_t (by decide) (h _ _ _ _ _ hz.1 hz.2.1 hz.2.2)⟩
end
end
section
/-! ===== the public methods ===== -/
theorem cd_T_mono (H q : Nat) : ∀ j, cd_T H q 32 j ≤ cd_T (2 ^ 32 - 1) q 32 j := by
  intro j
  induction j with
  | zero => exact Nat.le_refl 0
  | succ j ih =>
    show (if cd_hit H q (32 - (j + 1)) = true then 1 else 0) + cd_T H q 32 j ≤ (if cd_hit (2 ^ 32 - 1) q (32 - (j + 1)) = true then 1 else 0) + cd_T (2 ^ 32 - 1) q 32 j
    by_cases hp : cd_pt (32 - (j + 1)) = q
    · have hF : cd_hit (2 ^ 32 - 1) q (32 - (j + 1)) = true := cd_hit_e (by rw [Nat.testBit_two_pow_sub_one]; exact decide_eq_true (by omega)) hp
      rw [if_pos hF]
      split <;> omega
    · rw [if_neg (cd_hit_n hp), if_neg (cd_hit_n hp)]
      omega
theorem cd_cnAll : ∀ k, k < 5 → cd_cn (2 ^ 32 - 1) k ≤ 10 := by decide +kernel
theorem cd_cn10 {H k : Nat} (hk : k ≤ 4) : cd_cn H k ≤ 10 := Nat.le_trans (cd_T_mono H (k + 1) 31) (cd_cnAll k (by omega))
theorem cd_c31 {H k c : Nat} (hk : k ≤ 4) (hc : c < 2 ^ cd_cn H k) : c < 2 ^ 31 :=
  Nat.lt_of_lt_of_le hc (Nat.pow_le_pow_right (by omega) (by have := cd_cn10 (H := H) hk; omega))
theorem cd_cb {H k c : Nat} (hc : c < 2 ^ cd_cn H k) : ∀ i, i < 10 → c.testBit i = true → i < cd_cn H k := by
  intro i _ hb
  rcases Nat.lt_or_ge i (cd_cn H k) with z | z
  · exact z
  · rw [Nat.testBit_lt_two_pow (Nat.lt_of_lt_of_le hc (Nat.pow_le_pow_right (by omega) z))] at hb
    exact absurd hb (by decide)
theorem cd_dim {post : Int32 → Prop} {k : Nat} (hk : k ≤ 4) (h : post 1) : wpX_isDimension post () (nI k) :=
  br_f (nI_pos (by omega)) (br_f (nI_nlt (a := 4) hk (by omega)) h)
theorem cd_Hd_add {H s : Nat} {a : Nat → Int32} (hS : cd_Hd H a) (hb : H.testBit s = false) : cd_Hd (H ^^^ 2 ^ s) (upd a s 1) := by
  intro t ht
  by_cases e : t = s
  · subst e
    rw [pk_us, Nat.testBit_xor, Nat.testBit_two_pow_self, hb]
    decide
  · rw [pk_un e, Nat.testBit_xor, Nat.testBit_two_pow_of_ne (Ne.symm e), Bool.xor_false]
    exact hS t ht
theorem cd_Hd_rm {H s : Nat} {a : Nat → Int32} (hS : cd_Hd H a) (hb : H.testBit s = true) : cd_Hd (H ^^^ 2 ^ s) (upd a s 0) := by
  intro t ht
  by_cases e : t = s
  · subst e
    rw [pk_us, Nat.testBit_xor, Nat.testBit_two_pow_self, hb]
    decide
  · rw [pk_un e, Nat.testBit_xor, Nat.testBit_two_pow_of_ne (Ne.symm e), Bool.xor_false]
    exact hS t ht

section
variable {post : Int32 → Prop} {rk lf tk : Int32} {a1 a2 a3 a4 : Nat → Int32} {H : Nat}
theorem cd_chain {k c : Nat} (hk : k ≤ 4) (hc : c < 2 ^ cd_cn H k) (hS : cd_Hd H a1) (h : post 1) : wpX_isChain post (rk, lf, tk, a1, a2, a3, a4) (nI k) (nI c) := by
  unfold wpX_isChain
  refine cd_dim hk ?_
  refine br_f (by decide) ?_
  refine br_f (nI_pos (cd_c31 hk hc)) (cd_count hk hS (br_f ?_ h))
  have h10 := cd_cn10 (H := H) hk
  rw [cd_shl _ (by omega)]
  exact nI_ge hc (cd_p31 (by omega))
theorem cd_mCount {y : Int32} {k : Nat} (hy : y = nI k) (hk : k ≤ 4) (hS : cd_Hd H a1) (h : post (nI (cd_cn H k))) : wpX_count post (rk, lf, tk, a1, a2, a3, a4) y := by
  subst hy
  unfold wpX_count
  refine cd_dim hk ?_
  exact br_f (by decide) (cd_count hk hS h)
theorem cd_mSimp {y z : Int32} {k i : Nat} (hy : y = nI k) (hz : z = nI i) (hk : k ≤ 4) (hi : i < cd_cn H k) (hS : cd_Hd H a1) (h : post (nI (cd_sx H k i))) : wpX_simplex post (rk, lf, tk, a1, a2, a3, a4) y z := by
  subst hy hz
  have h10 := cd_cn10 (H := H) hk
  unfold wpX_simplex
  refine cd_dim hk ?_
  refine br_f (by decide) ?_
  exact br_f (nI_pos (by omega)) (cd_count hk hS (br_f (nI_ge hi (by omega)) (cd_simp hk hS hi h)))
theorem cd_mBoun {y z : Int32} {k c : Nat} (hy : y = nI k) (hz : z = nI c) (hk : k ≤ 4) (hc : c < 2 ^ cd_cn H k) (hS : cd_Hd H a1) (h : post (nI (cd_bd H k c))) : wpX_boundary post (rk, lf, tk, a1, a2, a3, a4) y z := by
  subst hy hz
  unfold wpX_boundary
  refine cd_chain hk hc hS ?_
  exact br_f (by decide) (cd_boun rfl hk (cd_c31 hk hc) hS (cd_cb hc) h)
theorem cd_alC : ∀ k, k < 5 → ((nI k &&& 1) = 0 ↔ k % 2 = 0) := by decide +kernel
theorem cd_altF (hS : cd_Hd H a1) : ∀ j k v, k + j = 5 → post (cd_alF H j v) → wX_alternating_4 post rk lf tk a1 a2 a3 a4 (j + 1) v (nI k) := by
  intro j
  induction j with
  | zero =>
    intro k v e h
    have e' : k = 5 := by omega
    subst e'
    exact br_t (by decide) h
  | succ j ih =>
    intro k v e h
    have hk : k < 5 := by omega
    have hX : cd_alF H (j + 1) v = cd_alF H j (if k % 2 = 0 then v + nI (cd_cn H k) else v + -nI (cd_cn H k)) := by
      have e' : 5 - (j + 1) = k := by omega
      subst e'
      rfl
    rw [hX] at h
    refine br_f (nI_ge (b := 5) hk (by decide)) (cd_count (by omega) hS (br_c (fun z => ?_) (fun z => ?_)))
    · rw [if_pos ((cd_alC k hk).mp z)] at h
      exact nm_e (nm_r (nI_1 k) (ih (k + 1) _ (by omega) h))
    · rw [if_neg (fun y => z ((cd_alC k hk).mpr y))] at h
      exact nm_e (nm_r (nI_1 k) (ih (k + 1) _ (by omega) h))
theorem cd_mAlt (hS : cd_Hd H a1) (h : post (cd_al H)) : wpX_alternating post (rk, lf, tk, a1, a2, a3, a4) :=
  ⟨6, cd_altF hS 5 0 0 rfl h⟩
end

section
variable {post : Int32 → St2 → Prop} {rk lf tk : Int32} {a1 a2 a3 a4 : Nat → Int32} {H : Nat}
theorem cd_addF {x : Nat} (hx : x < 32) : ∀ j s n H a1, s + j = 32 → cd_Hd H a1 → (∀ a1', cd_Hd (cd_adF x j H n).2 a1' → post (nI (cd_adF x j H n).1) (rk, lf, tk, a1', a2, a3, a4)) → wX_add_17 post (nI x) rk lf tk (j + 1) (nI n) (nI s) a1 a2 a3 a4 := by
  intro j
  induction j with
  | zero =>
    intro s n H a1 e hS h
    have e' : s = 32 := by omega
    subst e'
    exact br_t (by decide) (h a1 hS)
  | succ j ih =>
    intro s n H a1 e hS h
    have hs : s < 32 := by omega
    have hX : cd_adF x (j + 1) H n = if s &&& x = s then (if H.testBit s = true then cd_adF x j H n else cd_adF x j (H ^^^ 2 ^ s) (n + 1)) else cd_adF x j H n := by
      have e' : 32 - (j + 1) = s := by omega
      subst e'
      rfl
    rw [hX] at h
    refine br_f (nI_ge (b := 32) hs (by decide)) (br_c (fun z => ⟨pk_in s 32 hs, ?_⟩) (fun z => ?_))
    · rw [if_pos ((cd_adC s hs x hx).mp z)] at h
      rw [nI_clamp (show s < 2 ^ 31 by omega)]
      cases hb : H.testBit s with
      | false =>
        rw [if_neg (by rw [hb]; decide)] at h
        exact br_t ((hS s hs).mpr hb) ⟨pk_in s 32 hs, nm_e (nm_r (nI_1 n) (nm_r (nI_1 s) (ih (s + 1) (n + 1) _ _ (by omega) (cd_Hd_add hS hb) h)))⟩
      | true =>
        rw [if_pos hb] at h
        exact br_f (cd_nz (hS s hs) hb) (nm_r (nI_1 s) (ih (s + 1) n _ _ (by omega) hS h))
    · rw [if_neg (fun y => z ((cd_adC s hs x hx).mpr y))] at h
      exact nm_r (nI_1 s) (ih (s + 1) n _ _ (by omega) hS h)
theorem cd_mAdd {y : Int32} {x n H' : Nat} (hy : y = nI x) (h1 : 1 ≤ x) (h31 : x ≤ 31) (hv : cd_ad H x = (n, H')) (hS : cd_Hd H a1) (h : ∀ a1', cd_Hd H' a1' → post (nI n) (rk, lf, tk, a1', a2, a3, a4)) : wpX_add post (rk, lf, tk, a1, a2, a3, a4) y := by
  subst hy
  refine br_f (nI_nlt (b := 1) h1 (by omega)) (br_t (nI_le (b := 31) h31 (by omega)) ⟨32, cd_addF (by omega) 31 1 0 H a1 rfl hS ?_⟩)
  have hv' : cd_adF x 31 H 0 = (n, H') := hv
  rw [hv']
  exact h
theorem cd_remF {x : Nat} (hx : x < 32) : ∀ j s n H a1, s + j = 32 → cd_Hd H a1 → (∀ a1', cd_Hd (cd_rmF x j H n).2 a1' → post (nI (cd_rmF x j H n).1) (rk, lf, tk, a1', a2, a3, a4)) → wX_remove_17 post (nI x) rk lf tk (j + 1) (nI n) (nI s) a1 a2 a3 a4 := by
  intro j
  induction j with
  | zero =>
    intro s n H a1 e hS h
    have e' : s = 32 := by omega
    subst e'
    exact br_t (by decide) (h a1 hS)
  | succ j ih =>
    intro s n H a1 e hS h
    have hs : s < 32 := by omega
    have hX : cd_rmF x (j + 1) H n = if s &&& x = x then (if H.testBit s = true then cd_rmF x j (H ^^^ 2 ^ s) (n + 1) else cd_rmF x j H n) else cd_rmF x j H n := by
      have e' : 32 - (j + 1) = s := by omega
      subst e'
      rfl
    rw [hX] at h
    refine br_f (nI_ge (b := 32) hs (by decide)) (br_c (fun z => ⟨pk_in s 32 hs, ?_⟩) (fun z => ?_))
    · rw [if_pos ((cd_rmC s hs x hx).mp z)] at h
      rw [nI_clamp (show s < 2 ^ 31 by omega)]
      cases hb : H.testBit s with
      | false =>
        rw [if_neg (by rw [hb]; decide)] at h
        exact br_t ((hS s hs).mpr hb) (nm_r (nI_1 s) (ih (s + 1) n _ _ (by omega) hS h))
      | true =>
        rw [if_pos hb] at h
        exact br_f (cd_nz (hS s hs) hb) ⟨pk_in s 32 hs, nm_e (nm_r (nI_1 n) (nm_r (nI_1 s) (ih (s + 1) (n + 1) _ _ (by omega) (cd_Hd_rm hS hb) h)))⟩
    · rw [if_neg (fun y => z ((cd_rmC s hs x hx).mpr y))] at h
      exact nm_r (nI_1 s) (ih (s + 1) n _ _ (by omega) hS h)
theorem cd_mRem {y : Int32} {x n H' : Nat} (hy : y = nI x) (h1 : 1 ≤ x) (h31 : x ≤ 31) (hv : cd_rm H x = (n, H')) (hS : cd_Hd H a1) (h : ∀ a1', cd_Hd H' a1' → post (nI n) (rk, lf, tk, a1', a2, a3, a4)) : wpX_remove post (rk, lf, tk, a1, a2, a3, a4) y := by
  subst hy
  refine br_f (nI_nlt (b := 1) h1 (by omega)) (br_t (nI_le (b := 31) h31 (by omega)) ⟨32, cd_remF (by omega) 31 1 0 H a1 rfl hS ?_⟩)
  have hv' : cd_rmF x 31 H 0 = (n, H') := hv
  rw [hv']
  exact h
theorem cd_mHoles {y v : Int32} {k : Nat} (hy : y = nI k) (hk : k ≤ 4) (hv : cd_ho H k = v) (hS : cd_Hd H a1) (h : ∀ rk lf tk a2 a3 a4, post v (rk, lf, tk, a1, a2, a3, a4)) : wpX_holes post (rk, lf, tk, a1, a2, a3, a4) y := by
  subst hy hv
  unfold wpX_holes
  refine cd_dim hk ?_
  refine br_f (by decide) (cd_count hk hS ?_)
  refine cd_elim rfl (by omega) hS (fun _ _ _ _ _ _ _ _ => nm_e ?_)
  exact cd_elim (nI_1 k) (by omega) hS (fun _ _ _ _ _ _ _ _ => h _ _ _ _ _ _)
theorem cd_mFilled {y z v : Int32} {k c : Nat} (hy : y = nI k) (hz : z = nI c) (hk : k ≤ 4) (hc : c < 2 ^ cd_cn H k) (hv : (if (cd_lf H k c).1 = 0 then 1 else 0) = v) (hS : cd_Hd H a1) (h : ∀ rk lf tk a2 a3 a4, post v (rk, lf, tk, a1, a2, a3, a4)) : wpX_filled post (rk, lf, tk, a1, a2, a3, a4) y z := by
  subst hy hz
  have h31 := cd_c31 hk hc
  unfold wpX_filled
  refine cd_chain hk hc hS ?_
  refine br_f (by decide) ?_
  refine cd_elim (nI_1 k) (by omega) hS (fun lf tk a2 a3 a4 h2 h3 h4 => ?_)
  refine cd_red h31 h2 h3 ?_
  have hl := (cd_rd_lt h31 h2 h3).1
  refine br_c (fun e => ?_) (fun e => ?_)
  · rw [if_pos (show (cd_lf H k c).1 = 0 from (cd_e0 hl).mp e)] at hv
    rw [hv]
    exact h _ _ _ _ _ _
  · rw [if_neg (show ¬ (cd_lf H k c).1 = 0 from fun q => e ((cd_e0 hl).mpr q))] at hv
    rw [hv]
    exact h _ _ _ _ _ _
theorem cd_mLeast {y z : Int32} {k c : Nat} (hy : y = nI k) (hz : z = nI c) (hk : k ≤ 4) (hc : c < 2 ^ cd_cn H k) (hS : cd_Hd H a1) (h : ∀ rk lf tk a2 a3 a4, post (nI (cd_lf H k c).1) (rk, lf, tk, a1, a2, a3, a4)) : wpX_least post (rk, lf, tk, a1, a2, a3, a4) y z := by
  subst hy hz
  have h31 := cd_c31 hk hc
  unfold wpX_least
  refine cd_chain hk hc hS ?_
  refine br_f (by decide) ?_
  refine cd_elim (nI_1 k) (by omega) hS (fun lf tk a2 a3 a4 h2 h3 h4 => ?_)
  exact cd_red h31 h2 h3 (h _ _ _ _ _ _)
theorem cd_flF_s {C : Nat → Nat} (b a : Nat) : cd_flF C (b + 1) a = if C b = 0 then cd_flF C b a else if a.testBit b = true then cd_flF C b (a ^^^ C b) else cd_flF C b a := rfl
theorem cd_fillF {C : Nat → Nat} (h4 : cd_A C a4) : ∀ j a, j ≤ 10 → a < 2 ^ 31 → post (nI (cd_flF C j a)) (rk, lf, tk, a1, a2, a3, a4) → wX_filling_42 post rk lf tk a1 a2 a3 a4 (j + 1) (nI a) (nI j + (-1)) := by
  intro j
  induction j with
  | zero =>
    intro a _ _ h
    exact br_t (by decide) h
  | succ b ih =>
    intro a hj ha h
    have hb : b < 10 := by omega
    rw [cd_flF_s] at h
    rw [pk_m1]
    refine br_f (nI_pos (by omega)) ⟨pk_in b 10 hb, ?_⟩
    rw [nI_clamp (show b < 2 ^ 31 by omega), (h4 b hb).2]
    refine br_c (fun z => ?_) (fun z => ?_)
    · rw [if_pos ((cd_e0 (h4 b hb).1).mp z)] at h
      exact nm_e (ih a (by omega) ha h)
    · rw [if_neg (fun y => z ((cd_e0 (h4 b hb).1).mpr y))] at h
      cases hc : a.testBit b with
      | false =>
        rw [if_neg (by rw [hc]; decide)] at h
        exact br_t ((cd_bit ha (by omega)).mpr hc) (nm_e (ih a (by omega) ha h))
      | true =>
        rw [if_pos hc] at h
        exact br_f (cd_nz (cd_bit ha (by omega)) hc) ⟨pk_in b 10 hb, nm_r (cd_xor _ _) (nm_e (ih _ (by omega) (cd_x31 ha (h4 b hb).1) h))⟩
theorem cd_mFilling {y z v : Int32} {k c : Nat} (hy : y = nI k) (hz : z = nI c) (hk : k ≤ 4) (hc : c < 2 ^ cd_cn H k) (hv : (if (cd_lf H k c).1 = 0 then nI (cd_fl H k c) else -2) = v) (hS : cd_Hd H a1) (h : ∀ rk lf tk a2 a3 a4, post v (rk, lf, tk, a1, a2, a3, a4)) : wpX_filling post (rk, lf, tk, a1, a2, a3, a4) y z := by
  subst hy hz
  have h31 := cd_c31 hk hc
  unfold wpX_filling
  refine cd_chain hk hc hS ?_
  refine br_f (by decide) ?_
  refine cd_elim (nI_1 k) (by omega) hS (fun lf tk a2 a3 a4 h2 h3 h4 => ?_)
  refine cd_red h31 h2 h3 ?_
  have hl := cd_rd_lt h31 h2 h3
  refine br_c (fun e => ?_) (fun e => ?_)
  · rw [if_pos (show (cd_lf H k c).1 = 0 from (cd_e0 hl.1).mp e)] at hv
    refine ⟨11, cd_fillF h4 10 _ (by omega) hl.2 ?_⟩
    rw [← hv] at h
    exact h _ _ _ _ _ _
  · rw [if_neg (show ¬ (cd_lf H k c).1 = 0 from fun q => e ((cd_e0 hl.1).mpr q))] at hv
    rw [hv]
    exact h _ _ _ _ _ _
end
end
section
/-! ===== the tables: what the pure picture answers, by the kernel ===== -/
/-- the chain's part of the law over H (dimension 1: six simplices, dimension 0: four) -/
def cd_cOK (H c : Nat) : Bool :=
  cd_fo (cd_bd H 1 c) (fun b => cd_fo (cd_lf H 1 c).1 (fun l =>
    decide (b < 16 ∧ cd_bd H 0 b = 0 ∧ (cd_lf H 0 b).1 = 0 ∧ (l = 0 ↔ b = 0) ∧ l ≤ c ∧ cd_bd H 1 l = b ∧ (cd_lf H 1 (c ^^^ l)).1 = 0 ∧ (cd_lf H 1 l).1 = l)))
theorem cd_cOK_1 : ∀ c, c < 64 → cd_cOK 32766 c = true := by decide +kernel
theorem cd_cOK_2 : ∀ c, c < 64 → cd_cOK 65534 c = true := by decide +kernel
theorem cd_cOK_e {H c : Nat} (h : cd_cOK H c = true) : cd_bd H 1 c < 16 ∧ cd_bd H 0 (cd_bd H 1 c) = 0 ∧ (cd_lf H 0 (cd_bd H 1 c)).1 = 0 ∧ ((cd_lf H 1 c).1 = 0 ↔ cd_bd H 1 c = 0) ∧ (cd_lf H 1 c).1 ≤ c ∧ cd_bd H 1 (cd_lf H 1 c).1 = cd_bd H 1 c ∧ (cd_lf H 1 (c ^^^ (cd_lf H 1 c).1)).1 = 0 ∧ (cd_lf H 1 (cd_lf H 1 c).1).1 = (cd_lf H 1 c).1 := by
  unfold cd_cOK at h
  rw [cd_fo_eq, cd_fo_eq] at h
  exact of_decide_eq_true h
/-- the last part of the law: g is taken away from H -/
def cd_gOK (H : Nat) (z : Int32) (g : Nat) : Bool :=
  cd_fo (cd_rm H g).2 (fun K =>
    decide (nI (cd_rm H g).1 = ((1 : Int32) <<< ((4 - nI (cd_pt g)) &&& 31)) - z ∧ cd_ho K 0 = 1 ∧ cd_ho K 2 = (if cd_pt g = 4 then 1 else 0) ∧ cd_ho K 1 = 0 ∧ cd_ho K 3 = 0 ∧ cd_al K = (if cd_pt g = 4 then 2 else 1)))
theorem cd_gOK_1 : ∀ g, g < 15 → cd_gOK 32766 1 (1 + g) = true := by decide +kernel
theorem cd_gOK_2 : ∀ g, g < 15 → cd_gOK 65534 0 (1 + g) = true := by decide +kernel
theorem cd_gOK_e {H g : Nat} {z : Int32} (h : cd_gOK H z g = true) : nI (cd_rm H g).1 = ((1 : Int32) <<< ((4 - nI (cd_pt g)) &&& 31)) - z ∧ cd_ho (cd_rm H g).2 0 = 1 ∧ cd_ho (cd_rm H g).2 2 = (if cd_pt g = 4 then 1 else 0) ∧ cd_ho (cd_rm H g).2 1 = 0 ∧ cd_ho (cd_rm H g).2 3 = 0 ∧ cd_al (cd_rm H g).2 = (if cd_pt g = 4 then 2 else 1) := by
  unfold cd_gOK at h
  rw [cd_fo_eq] at h
  exact of_decide_eq_true h
theorem cd_gN : ∀ g, g < 16 → (((nI g &&& 1) + ((nI g >>> ((1 : Int32) &&& 31)) &&& 1)) + ((nI g >>> ((2 : Int32) &&& 31)) &&& 1)) + ((nI g >>> ((3 : Int32) &&& 31)) &&& 1) = nI (cd_pt g) ∧ cd_pt g ≤ 4 := by decide +kernel
theorem cd_k1 : cd_cn 32766 0 = 4 ∧ cd_cn 32766 1 = 6 ∧ cd_cn 65534 0 = 4 ∧ cd_cn 65534 1 = 6 := by decide +kernel
end
section
/-! ===== the law, from its end to its start ===== -/
section
variable {post : Int32 → St0 → Prop} {mc ms kc ks : Nat} {rk lf tk : Int32} {a1 a2 a3 a4 : Nat → Int32} {H : Nat}
theorem cd_843 {x14 z0 : Int32} {n : Nat} (hx : x14 = nI n) (hn : n ≤ 4) (hS : cd_Hd H a1) (h2 : cd_ho H 2 = z0) (h1 : cd_ho H 1 = 0) (h3 : cd_ho H 3 = 0) (ha : cd_al H = if n = 4 then 2 else 1) (hp : post 1 ()) : wL_lawOf_843 post mc ms x14 z0 kc ks rk lf tk a1 a2 a3 a4 := by
  unfold wL_lawOf_843
  refine cd_mHoles (k := 2) rfl (by omega) h2 hS (fun _ _ _ _ _ _ => ?_)
  refine br_t rfl ?_
  refine cd_mHoles (k := 1) rfl (by omega) h1 hS (fun _ _ _ _ _ _ => ?_)
  refine br_t rfl ?_
  refine cd_mHoles (k := 3) rfl (by omega) h3 hS (fun _ _ _ _ _ _ => ?_)
  refine br_t rfl ?_
  refine cd_mAlt hS ?_
  refine pk_eq n 4 (fun z => ?_) (fun z => ?_) hx rfl (by omega) (by omega)
  · exact br_t (by rw [ha, if_pos z]) hp
  · exact br_t (by rw [ha, if_neg z]) hp
theorem cd_805 {x13 x14 z0 z1 : Int32} {g : Nat} (hg : g < 15) (hx : x13 = nI (1 + g)) (hx' : x14 = nI (cd_pt (1 + g))) (hz : z1 = (1 : Int32) <<< ((4 - nI (cd_pt (1 + g))) &&& 31)) (hS : cd_Hd H a1) (hO : cd_gOK H z0 (1 + g) = true) (hp : post 1 ()) : wL_lawOf_805 post mc ms x13 x14 z0 z1 kc ks rk lf tk a1 a2 a3 a4 := by
  have hO' := cd_gOK_e hO
  have hn := (cd_gN (1 + g) (by omega)).2
  unfold wL_lawOf_805
  refine nm_e ?_
  refine cd_mRem hx (by omega) (by omega) (show cd_rm H (1 + g) = ((cd_rm H (1 + g)).1, (cd_rm H (1 + g)).2) from rfl) hS (fun a1' hS' => ?_)
  refine br_t (by rw [hz]; exact hO'.1) ?_
  refine cd_mHoles (k := 0) rfl (by omega) hO'.2.1 hS' (fun _ _ _ _ _ _ => ?_)
  refine br_t rfl ?_
  refine pk_eq (cd_pt (1 + g)) 4 (fun z => ?_) (fun z => ?_) hx' rfl (by omega) (by omega)
  · exact cd_843 hx' hn hS' (by rw [hO'.2.2.1, if_pos z]) hO'.2.2.2.1 hO'.2.2.2.2.1 hO'.2.2.2.2.2 hp
  · exact cd_843 hx' hn hS' (by rw [hO'.2.2.1, if_neg z]) hO'.2.2.2.1 hO'.2.2.2.2.1 hO'.2.2.2.2.2 hp
theorem cd_684 {x4 x9 x10 x11 z0 z1 : Int32} {c : Nat} (hc : c < 64) (h0 : cd_cn H 0 = 4) (h1 : cd_cn H 1 = 6) (hx : x10 = nI c) (hb : x11 = nI (cd_bd H 1 c)) (hz : z1 = z0) (hS : cd_Hd H a1) (hO : cd_cOK H c = true)
    (hG : (x9 = 0 ∧ ∀ g, g < 15 → cd_gOK H 1 (1 + g) = true) ∨ (¬ x9 = 0 ∧ ∀ g, g < 15 → cd_gOK H 0 (1 + g) = true)) (hp : post 1 ()) : wL_lawOf_684 post mc ms x4 x9 x10 x11 z0 z1 kc ks rk lf tk a1 a2 a3 a4 := by
  have hO' := cd_cOK_e hO
  have e64 : 2 ^ cd_cn H 1 = 64 := by rw [h1]
  have hl : (cd_lf H 1 c).1 < 64 := by omega
  have hcl : c ^^^ (cd_lf H 1 c).1 < 2 ^ 6 := Nat.xor_lt_two_pow hc hl
  unfold wL_lawOf_684
  refine br_t hz ?_
  refine cd_mLeast (k := 1) rfl hx (by omega) (by omega) hS (fun _ _ _ _ _ _ => ?_)
  refine br_f (by rw [hx]; exact nI_nlt hO'.2.2.2.2.1 (by omega)) ?_
  refine cd_mBoun (k := 1) rfl rfl (by omega) (by omega) hS ?_
  refine br_t (by rw [hO'.2.2.2.2.2.1, hb]) ?_
  refine cd_mFilled (k := 1) (c := c ^^^ (cd_lf H 1 c).1) (v := 1) rfl (by rw [hx, cd_xor]) (by omega) (by omega) (by rw [if_pos hO'.2.2.2.2.2.2.1]) hS (fun _ _ _ _ _ _ => ?_)
  refine br_t rfl ?_
  refine cd_mLeast (k := 1) rfl rfl (by omega) (by omega) hS (fun _ _ _ _ _ _ => ?_)
  refine br_t (by rw [hO'.2.2.2.2.2.2.2]) ⟨by decide, ?_⟩
  obtain ⟨j, hj, ej⟩ := pk_andE x4 (m := 255) 8 (by decide)
  have eg : 1 + ((x4 &&& 255) - (x4 &&& 255) / 15 * 15) = nI (1 + j % 15) := by
    rw [ej]
    have e2 : nI j - nI j / 15 * 15 = nI (j % 15) := pk_rem (a := j) (d := 15) (by omega) (by omega) (by omega)
    rw [e2]
    exact nI_add 1 (j % 15)
  have hg : j % 15 < 15 := Nat.mod_lt _ (by omega)
  refine nm_r eg ?_
  refine nm_r (cd_gN (1 + j % 15) (by omega)).1 ?_
  rcases hG with ⟨h9, hG⟩ | ⟨h9, hG⟩
  · exact br_t h9 (cd_805 hg rfl rfl rfl hS (hG _ hg) hp)
  · exact br_f h9 (cd_805 hg rfl rfl rfl hS (hG _ hg) hp)
theorem cd_622 {x3 x4 x9 : Int32} (h0 : cd_cn H 0 = 4) (h1 : cd_cn H 1 = 6) (hS : cd_Hd H a1) (hC : ∀ c, c < 64 → cd_cOK H c = true)
    (hG : (x9 = 0 ∧ ∀ g, g < 15 → cd_gOK H 1 (1 + g) = true) ∨ (¬ x9 = 0 ∧ ∀ g, g < 15 → cd_gOK H 0 (1 + g) = true)) (hp : post 1 ()) : wL_lawOf_622 post mc ms x3 x4 x9 kc ks rk lf tk a1 a2 a3 a4 := by
  obtain ⟨c, hc', ec⟩ := pk_andE x3 (m := 63) 6 (by decide)
  have hc : c < 64 := hc'
  have hO := hC c hc
  have hO' := cd_cOK_e hO
  have e64 : 2 ^ cd_cn H 1 = 64 := by rw [h1]
  have e16 : 2 ^ cd_cn H 0 = 16 := by rw [h0]
  have hb := hO'.1
  unfold wL_lawOf_622
  refine nm_r ec ?_
  refine cd_mBoun (k := 1) rfl rfl (by omega) (by omega) hS ?_
  refine br_f (nI_pos (by omega)) ?_
  refine cd_mBoun (k := 0) rfl rfl (by omega) (by omega) hS ?_
  refine br_t (by rw [hO'.2.1]; rfl) ?_
  refine cd_mFilled (k := 0) (v := 1) rfl rfl (by omega) (by omega) (by rw [if_pos hO'.2.2.1]) hS (fun _ _ _ _ _ _ => ?_)
  refine br_t rfl ?_
  refine cd_mFilled (k := 1) rfl rfl (by omega) (by omega) rfl hS (fun _ _ _ _ _ _ => ?_)
  refine br_c (fun z => ?_) (fun z => ?_)
  · exact cd_684 hc h0 h1 rfl rfl (by rw [if_pos (hO'.2.2.2.1.mpr ((cd_e0 (by omega)).mp z))]) hS hO hG hp
  · exact cd_684 hc h0 h1 rfl rfl (by rw [if_neg (fun y => z ((cd_e0 (by omega)).mpr (hO'.2.2.2.1.mp y)))]) hS hO hG hp
theorem cd_569_0 {x3 x4 : Int32} (hS : cd_Hd 32766 a1) (hp : post 1 ()) : wL_lawOf_569 post mc ms x3 x4 0 kc ks rk lf tk a1 a2 a3 a4 := by
  unfold wL_lawOf_569
  refine br_t rfl ?_
  exact cd_622 cd_k1.1 cd_k1.2.1 hS cd_cOK_1 (Or.inl ⟨rfl, cd_gOK_1⟩) hp
theorem cd_569_1 {x3 x4 : Int32} (hS : cd_Hd 32766 a1) (hp : post 1 ()) : wL_lawOf_569 post mc ms x3 x4 1 kc ks rk lf tk a1 a2 a3 a4 := by
  unfold wL_lawOf_569
  refine br_f (by decide) ?_
  refine cd_mAdd (x := 15) (n := 1) (H' := 65534) rfl (by omega) (by omega) (by decide +kernel) hS (fun a1 hS => ?_)
  refine br_t rfl ?_
  refine cd_mHoles (k := 2) (v := 0) rfl (by omega) (by decide +kernel) hS (fun _ _ _ _ _ _ => ?_)
  refine br_t rfl ?_
  refine cd_mFilling (k := 2) (c := 15) (v := 1) rfl rfl (by omega) (by decide +kernel) (by decide +kernel) hS (fun _ _ _ _ _ _ => ?_)
  refine br_t rfl ?_
  refine cd_mBoun (k := 3) (c := 1) rfl rfl (by omega) (by decide +kernel) hS ?_
  refine br_t (by decide +kernel) ?_
  exact cd_622 cd_k1.2.2.1 cd_k1.2.2.2 hS cd_cOK_2 (Or.inr ⟨by decide, cd_gOK_2⟩) hp
theorem cd_420 {x2 x3 x4 z0 : Int32} {H n : Nat} (hv : cd_ad H 7 = (n, 254)) (hz : nI n = z0) (hS : cd_Hd H a1) (hp : post 1 ()) : wL_lawOf_420 post mc ms x2 x3 x4 z0 kc ks rk lf tk a1 a2 a3 a4 := by
  unfold wL_lawOf_420
  refine cd_mAdd (x := 7) rfl (by omega) (by omega) hv hS (fun a1 hS => ?_)
  refine br_t hz ?_
  refine cd_mAdd (x := 11) (n := 4) (H' := 4094) rfl (by omega) (by omega) (by decide +kernel) hS (fun a1 hS => ?_)
  refine br_t rfl ?_
  refine cd_mAdd (x := 13) (n := 2) (H' := 16382) rfl (by omega) (by omega) (by decide +kernel) hS (fun a1 hS => ?_)
  refine br_t rfl ?_
  refine cd_mAdd (x := 14) (n := 1) (H' := 32766) rfl (by omega) (by omega) (by decide +kernel) hS (fun a1 hS => ?_)
  refine br_t rfl ?_
  refine cd_mCount (k := 2) rfl (by omega) hS ?_
  refine br_t (by decide +kernel) ?_
  refine cd_mHoles (k := 2) (v := 1) rfl (by omega) (by decide +kernel) hS (fun _ _ _ _ _ _ => ?_)
  refine br_t rfl ?_
  refine cd_mHoles (k := 1) (v := 0) rfl (by omega) (by decide +kernel) hS (fun _ _ _ _ _ _ => ?_)
  refine br_t rfl ?_
  refine cd_mBoun (k := 2) (c := 15) rfl rfl (by omega) (by decide +kernel) hS ?_
  refine br_t (by decide +kernel) ?_
  refine cd_mFilled (k := 2) (c := 15) (v := 0) rfl rfl (by omega) (by decide +kernel) (by decide +kernel) hS (fun _ _ _ _ _ _ => ?_)
  refine br_t rfl ?_
  refine cd_mBoun (k := 2) (c := 1) rfl rfl (by omega) (by decide +kernel) hS ?_
  refine br_t (by decide +kernel) ?_
  refine cd_mSimp (k := 2) (i := 3) rfl rfl (by omega) (by decide +kernel) hS ?_
  refine br_t (by decide +kernel) ?_
  refine cd_mSimp (k := 1) (i := 5) rfl rfl (by omega) (by decide +kernel) hS ?_
  refine br_t (by decide +kernel) ?_
  exact br_c (fun _ => cd_569_0 hS hp) (fun _ => cd_569_1 hS hp)
end
end
section
/-! ===== the law's first half, once for each (filled, apart); then the law (printed by gen07.py) ===== -/
section
variable {post : Int32 → St0 → Prop} {mc ms kc ks : Nat} {rk lf tk : Int32} {a1 a2 a3 a4 : Nat → Int32} {x1 x2 x3 x4 : Int32}
theorem cd_222_00 (hS : cd_Hd 126 a1) (hp : post 1 ()) : wL_lawOf_222 post mc ms x2 x3 x4 0 0 kc ks rk lf tk a1 a2 a3 a4 := by
  unfold wL_lawOf_222
  refine br_t rfl ?_
  unfold wL_lawOf_236
  refine cd_mAdd (x := 24) (n := 3) (H' := 16843134) rfl (by omega) (by omega) (by decide +kernel) hS (fun a1 hS => ?_)
  refine br_t rfl ?_
  unfold wL_lawOf_249
  refine br_t rfl ?_
  refine cd_mHoles (k := 0) (v := 2) rfl (by omega) (by decide +kernel) hS (fun _ _ _ _ _ _ => ?_)
  refine br_t rfl ?_
  refine cd_mAlt hS ?_
  refine br_t rfl ?_
  unfold wL_lawOf_277
  refine br_t (by decide +kernel) ?_
  refine cd_mCount (k := 0) rfl (by omega) hS ?_
  refine br_t rfl ?_
  unfold wL_lawOf_298
  refine br_t (by decide +kernel) ?_
  refine cd_mFilled (k := 0) (c := 9) (v := 0) rfl rfl (by omega) (by decide +kernel) (by decide +kernel) hS (fun _ _ _ _ _ _ => ?_)
  refine br_t rfl ?_
  refine cd_mFilled (k := 0) (c := 3) (v := 1) rfl rfl (by omega) (by decide +kernel) (by decide +kernel) hS (fun _ _ _ _ _ _ => ?_)
  refine br_t rfl ?_
  refine cd_mFilling (k := 0) (c := 3) (v := 1) rfl rfl (by omega) (by decide +kernel) (by decide +kernel) hS (fun _ _ _ _ _ _ => ?_)
  refine br_t rfl ?_
  refine cd_mLeast (k := 0) (c := 6) rfl rfl (by omega) (by decide +kernel) hS (fun _ _ _ _ _ _ => ?_)
  refine br_t (by decide +kernel) ?_
  refine cd_mLeast (k := 0) (c := 2) rfl rfl (by omega) (by decide +kernel) hS (fun _ _ _ _ _ _ => ?_)
  refine br_t (by decide +kernel) ?_
  refine cd_mRem (x := 16) (n := 2) (H' := 382) rfl (by omega) (by omega) (by decide +kernel) hS (fun a1 hS => ?_)
  refine br_t rfl ?_
  unfold wL_lawOf_375
  refine br_t rfl ?_
  refine cd_mRem (x := 16) (n := 0) (H' := 382) rfl (by omega) (by omega) (by decide +kernel) hS (fun a1 hS => ?_)
  refine br_t rfl ?_
  refine cd_mRem (x := 8) (n := 1) (H' := 126) rfl (by omega) (by omega) (by decide +kernel) hS (fun a1 hS => ?_)
  refine br_t rfl ?_
  unfold wL_lawOf_405
  refine br_t rfl ?_
  refine br_t rfl ?_
  exact cd_420 (n := 1) (by decide +kernel) rfl hS hp
theorem cd_222_01 (hS : cd_Hd 126 a1) (hp : post 1 ()) : wL_lawOf_222 post mc ms x2 x3 x4 0 1 kc ks rk lf tk a1 a2 a3 a4 := by
  unfold wL_lawOf_222
  refine br_f (by decide) ?_
  unfold wL_lawOf_236
  refine cd_mAdd (x := 16) (n := 1) (H' := 65662) rfl (by omega) (by omega) (by decide +kernel) hS (fun a1 hS => ?_)
  refine br_f (by decide) ?_
  unfold wL_lawOf_249
  refine br_t rfl ?_
  refine cd_mHoles (k := 0) (v := 2) rfl (by omega) (by decide +kernel) hS (fun _ _ _ _ _ _ => ?_)
  refine br_t rfl ?_
  refine cd_mAlt hS ?_
  refine br_t rfl ?_
  unfold wL_lawOf_277
  refine br_t (by decide +kernel) ?_
  refine cd_mCount (k := 0) rfl (by omega) hS ?_
  refine br_f (by decide) ?_
  unfold wL_lawOf_298
  refine br_t (by decide +kernel) ?_
  refine cd_mFilled (k := 0) (c := 9) (v := 0) rfl rfl (by omega) (by decide +kernel) (by decide +kernel) hS (fun _ _ _ _ _ _ => ?_)
  refine br_t rfl ?_
  refine cd_mFilled (k := 0) (c := 3) (v := 1) rfl rfl (by omega) (by decide +kernel) (by decide +kernel) hS (fun _ _ _ _ _ _ => ?_)
  refine br_t rfl ?_
  refine cd_mFilling (k := 0) (c := 3) (v := 1) rfl rfl (by omega) (by decide +kernel) (by decide +kernel) hS (fun _ _ _ _ _ _ => ?_)
  refine br_t rfl ?_
  refine cd_mLeast (k := 0) (c := 6) rfl rfl (by omega) (by decide +kernel) hS (fun _ _ _ _ _ _ => ?_)
  refine br_t (by decide +kernel) ?_
  refine cd_mLeast (k := 0) (c := 2) rfl rfl (by omega) (by decide +kernel) hS (fun _ _ _ _ _ _ => ?_)
  refine br_t (by decide +kernel) ?_
  refine cd_mRem (x := 16) (n := 1) (H' := 126) rfl (by omega) (by omega) (by decide +kernel) hS (fun a1 hS => ?_)
  refine br_f (by decide) ?_
  unfold wL_lawOf_375
  refine br_t rfl ?_
  refine cd_mRem (x := 16) (n := 0) (H' := 126) rfl (by omega) (by omega) (by decide +kernel) hS (fun a1 hS => ?_)
  refine br_t rfl ?_
  refine cd_mRem (x := 8) (n := 0) (H' := 126) rfl (by omega) (by omega) (by decide +kernel) hS (fun a1 hS => ?_)
  refine br_f (by decide) ?_
  unfold wL_lawOf_405
  refine br_t rfl ?_
  refine br_t rfl ?_
  exact cd_420 (n := 1) (by decide +kernel) rfl hS hp
theorem cd_222_10 (hS : cd_Hd 254 a1) (hp : post 1 ()) : wL_lawOf_222 post mc ms x2 x3 x4 1 0 kc ks rk lf tk a1 a2 a3 a4 := by
  unfold wL_lawOf_222
  refine br_t rfl ?_
  unfold wL_lawOf_236
  refine cd_mAdd (x := 24) (n := 3) (H' := 16843262) rfl (by omega) (by omega) (by decide +kernel) hS (fun a1 hS => ?_)
  refine br_t rfl ?_
  unfold wL_lawOf_249
  refine br_t rfl ?_
  refine cd_mHoles (k := 0) (v := 2) rfl (by omega) (by decide +kernel) hS (fun _ _ _ _ _ _ => ?_)
  refine br_t rfl ?_
  refine cd_mAlt hS ?_
  refine br_f (by decide) ?_
  unfold wL_lawOf_277
  refine br_t (by decide +kernel) ?_
  refine cd_mCount (k := 0) rfl (by omega) hS ?_
  refine br_t rfl ?_
  unfold wL_lawOf_298
  refine br_t (by decide +kernel) ?_
  refine cd_mFilled (k := 0) (c := 9) (v := 0) rfl rfl (by omega) (by decide +kernel) (by decide +kernel) hS (fun _ _ _ _ _ _ => ?_)
  refine br_t rfl ?_
  refine cd_mFilled (k := 0) (c := 3) (v := 1) rfl rfl (by omega) (by decide +kernel) (by decide +kernel) hS (fun _ _ _ _ _ _ => ?_)
  refine br_t rfl ?_
  refine cd_mFilling (k := 0) (c := 3) (v := 1) rfl rfl (by omega) (by decide +kernel) (by decide +kernel) hS (fun _ _ _ _ _ _ => ?_)
  refine br_t rfl ?_
  refine cd_mLeast (k := 0) (c := 6) rfl rfl (by omega) (by decide +kernel) hS (fun _ _ _ _ _ _ => ?_)
  refine br_t (by decide +kernel) ?_
  refine cd_mLeast (k := 0) (c := 2) rfl rfl (by omega) (by decide +kernel) hS (fun _ _ _ _ _ _ => ?_)
  refine br_t (by decide +kernel) ?_
  refine cd_mRem (x := 16) (n := 2) (H' := 510) rfl (by omega) (by omega) (by decide +kernel) hS (fun a1 hS => ?_)
  refine br_t rfl ?_
  unfold wL_lawOf_375
  refine br_t rfl ?_
  refine cd_mRem (x := 16) (n := 0) (H' := 510) rfl (by omega) (by omega) (by decide +kernel) hS (fun a1 hS => ?_)
  refine br_t rfl ?_
  refine cd_mRem (x := 8) (n := 1) (H' := 254) rfl (by omega) (by omega) (by decide +kernel) hS (fun a1 hS => ?_)
  refine br_t rfl ?_
  unfold wL_lawOf_405
  refine br_t rfl ?_
  refine br_f (by decide) ?_
  exact cd_420 (n := 0) (by decide +kernel) rfl hS hp
theorem cd_222_11 (hS : cd_Hd 254 a1) (hp : post 1 ()) : wL_lawOf_222 post mc ms x2 x3 x4 1 1 kc ks rk lf tk a1 a2 a3 a4 := by
  unfold wL_lawOf_222
  refine br_f (by decide) ?_
  unfold wL_lawOf_236
  refine cd_mAdd (x := 16) (n := 1) (H' := 65790) rfl (by omega) (by omega) (by decide +kernel) hS (fun a1 hS => ?_)
  refine br_f (by decide) ?_
  unfold wL_lawOf_249
  refine br_t rfl ?_
  refine cd_mHoles (k := 0) (v := 2) rfl (by omega) (by decide +kernel) hS (fun _ _ _ _ _ _ => ?_)
  refine br_t rfl ?_
  refine cd_mAlt hS ?_
  refine br_f (by decide) ?_
  unfold wL_lawOf_277
  refine br_t (by decide +kernel) ?_
  refine cd_mCount (k := 0) rfl (by omega) hS ?_
  refine br_f (by decide) ?_
  unfold wL_lawOf_298
  refine br_t (by decide +kernel) ?_
  refine cd_mFilled (k := 0) (c := 9) (v := 0) rfl rfl (by omega) (by decide +kernel) (by decide +kernel) hS (fun _ _ _ _ _ _ => ?_)
  refine br_t rfl ?_
  refine cd_mFilled (k := 0) (c := 3) (v := 1) rfl rfl (by omega) (by decide +kernel) (by decide +kernel) hS (fun _ _ _ _ _ _ => ?_)
  refine br_t rfl ?_
  refine cd_mFilling (k := 0) (c := 3) (v := 1) rfl rfl (by omega) (by decide +kernel) (by decide +kernel) hS (fun _ _ _ _ _ _ => ?_)
  refine br_t rfl ?_
  refine cd_mLeast (k := 0) (c := 6) rfl rfl (by omega) (by decide +kernel) hS (fun _ _ _ _ _ _ => ?_)
  refine br_t (by decide +kernel) ?_
  refine cd_mLeast (k := 0) (c := 2) rfl rfl (by omega) (by decide +kernel) hS (fun _ _ _ _ _ _ => ?_)
  refine br_t (by decide +kernel) ?_
  refine cd_mRem (x := 16) (n := 1) (H' := 254) rfl (by omega) (by omega) (by decide +kernel) hS (fun a1 hS => ?_)
  refine br_f (by decide) ?_
  unfold wL_lawOf_375
  refine br_t rfl ?_
  refine cd_mRem (x := 16) (n := 0) (H' := 254) rfl (by omega) (by omega) (by decide +kernel) hS (fun a1 hS => ?_)
  refine br_t rfl ?_
  refine cd_mRem (x := 8) (n := 0) (H' := 254) rfl (by omega) (by omega) (by decide +kernel) hS (fun a1 hS => ?_)
  refine br_f (by decide) ?_
  unfold wL_lawOf_405
  refine br_t rfl ?_
  refine br_f (by decide) ?_
  exact cd_420 (n := 0) (by decide +kernel) rfl hS hp
theorem cd_33 {x6 z0 : Int32} (hS : cd_Hd 0 a1) (h6 : x6 = 0 ∨ x6 = 1) (hz : z0 = 0 ∨ z0 = 1) (hp : post 1 ()) : wL_lawOf_33 post mc ms x2 x3 x4 x6 z0 kc ks rk lf tk a1 a2 a3 a4 := by
  unfold wL_lawOf_33
  refine cd_mAdd (x := 3) (n := 3) (H' := 14) rfl (by omega) (by omega) (by decide +kernel) hS (fun a1 hS => ?_)
  refine br_t rfl ?_
  refine cd_mAdd (x := 5) (n := 2) (H' := 62) rfl (by omega) (by omega) (by decide +kernel) hS (fun a1 hS => ?_)
  refine br_t rfl ?_
  refine cd_mAdd (x := 6) (n := 1) (H' := 126) rfl (by omega) (by omega) (by decide +kernel) hS (fun a1 hS => ?_)
  refine br_t rfl ?_
  refine cd_mHoles (k := 1) (v := 1) rfl (by omega) (by decide +kernel) hS (fun _ _ _ _ _ _ => ?_)
  refine br_t rfl ?_
  refine cd_mHoles (k := 0) (v := 1) rfl (by omega) (by decide +kernel) hS (fun _ _ _ _ _ _ => ?_)
  refine br_t rfl ?_
  refine cd_mBoun (k := 1) (c := 7) rfl rfl (by omega) (by decide +kernel) hS ?_
  refine br_t (by decide +kernel) ?_
  refine cd_mFilled (k := 1) (c := 7) (v := 0) rfl rfl (by omega) (by decide +kernel) (by decide +kernel) hS (fun _ _ _ _ _ _ => ?_)
  refine br_t rfl ?_
  refine cd_mFilling (k := 1) (c := 7) (v := -2) rfl rfl (by omega) (by decide +kernel) (by decide +kernel) hS (fun _ _ _ _ _ _ => ?_)
  refine br_t rfl ?_
  refine cd_mLeast (k := 1) (c := 7) rfl rfl (by omega) (by decide +kernel) hS (fun _ _ _ _ _ _ => ?_)
  refine br_t (by decide +kernel) ?_
  refine cd_mBoun (k := 1) (c := 1) rfl rfl (by omega) (by decide +kernel) hS ?_
  refine br_t (by decide +kernel) ?_
  refine cd_mBoun (k := 1) (c := 6) rfl rfl (by omega) (by decide +kernel) hS ?_
  refine br_t (by decide +kernel) ?_
  rcases h6 with h6 | h6
  · subst h6
    refine br_t rfl ?_
    rcases hz with hz | hz
    · subst hz
      exact cd_222_00 hS hp
    · subst hz
      exact cd_222_01 hS hp
  · subst h6
    refine br_f (by decide) ?_
    refine cd_mAdd (x := 7) (n := 1) (H' := 254) rfl (by omega) (by omega) (by decide +kernel) hS (fun a1 hS => ?_)
    refine br_t rfl ?_
    refine cd_mHoles (k := 1) (v := 0) rfl (by omega) (by decide +kernel) hS (fun _ _ _ _ _ _ => ?_)
    refine br_t rfl ?_
    refine cd_mFilling (k := 1) (c := 7) (v := 1) rfl rfl (by omega) (by decide +kernel) (by decide +kernel) hS (fun _ _ _ _ _ _ => ?_)
    refine br_t rfl ?_
    refine cd_mLeast (k := 1) (c := 7) rfl rfl (by omega) (by decide +kernel) hS (fun _ _ _ _ _ _ => ?_)
    refine br_t (by decide +kernel) ?_
    refine cd_mLeast (k := 1) (c := 4) rfl rfl (by omega) (by decide +kernel) hS (fun _ _ _ _ _ _ => ?_)
    refine br_t (by decide +kernel) ?_
    rcases hz with hz | hz
    · subst hz
      exact cd_222_10 hS hp
    · subst hz
      exact cd_222_11 hS hp
theorem cd_20 {z0 : Int32} (hS : cd_Hd 0 a1) (hz : z0 = 0 ∨ z0 = 1) (hp : post 1 ()) : wL_lawOf_20 post mc ms x1 x2 x3 x4 z0 kc ks rk lf tk a1 a2 a3 a4 := by
  unfold wL_lawOf_20
  exact br_c (fun _ => cd_33 hS hz (Or.inl rfl) hp) (fun _ => cd_33 hS hz (Or.inr rfl) hp)
theorem cd_Hd0 : cd_Hd 0 (fun _ => 0) := fun s _ => ⟨fun _ => Nat.zero_testBit s, fun _ => rfl⟩
theorem cd_lawOf {p0 p1 p2 p3 p4 : Int32} (hp : post 1 ()) : wpL_lawOf post 32 512 () p0 p1 p2 p3 p4 := by
  unfold wpL_lawOf
  refine ⟨by omega, by omega, 31, 505, by omega, by omega, ?_⟩
  refine ⟨by omega, by omega, by omega, by omega, by omega, by omega, by omega, by omega, ?_⟩
  exact br_c (fun _ => cd_20 cd_Hd0 (Or.inl rfl) hp) (fun _ => cd_20 cd_Hd0 (Or.inr rfl) hp)
end
theorem cd_cell {post : Int32 → Prop} {L : Nat} {xs : Nat → Int32} {i : Nat} (hL : L ≤ 5) (hi : i < 5) (h : ∀ v, post v) : wpL_cellAt post L xs () (nI i) := by
  unfold wpL_cellAt
  exact pk_le L i (fun _ => h _) (fun z => ⟨vp_in_nI z (by omega), h _⟩) rfl rfl (by omega) (by omega)
theorem i_vc (xs : Nat → Int32) (L : Nat) (hL : L ≤ 5) : wpL_law (fun r => r = 1) L xs := by
  unfold wpL_law
  refine cd_cell (i := 0) hL (by omega) (fun _ => ?_)
  refine cd_cell (i := 1) hL (by omega) (fun _ => ?_)
  refine cd_cell (i := 2) hL (by omega) (fun _ => ?_)
  refine cd_cell (i := 3) hL (by omega) (fun _ => ?_)
  refine cd_cell (i := 4) hL (by omega) (fun _ => ?_)
  exact ⟨32, 512, by omega, by omega, cd_lawOf rfl⟩
end
