section
/-! ===== base: indices, refusals, counts ===== -/
def td_ag (n : Nat) (f g : Nat → Int32) : Prop := ∀ j, j < n → f j = g j
theorem td_ix (s j : Nat) : 17 * nI s + nI j = nI (17 * s + j) := by
  show nI 17 * nI s + nI j = _
  rw [pk_mul, nI_add]
theorem td_m1 {j : Nat} (h : 0 < j) : nI j - 1 = nI (j - 1) := by
  obtain ⟨k, rfl⟩ : ∃ k, j = k + 1 := ⟨j - 1, by omega⟩
  rw [nI_pred, Nat.add_sub_cancel]
theorem td_uu (f : Nat → Int32) (k : Nat) (x y : Int32) : upd (upd f k x) k y = upd f k y := by
  funext j
  by_cases h : j = k
  · rw [h, pk_us, pk_us]
  · rw [pk_un h, pk_un h, pk_un h]
theorem td_uself (f : Nat → Int32) (k : Nat) (x : Int32) (h : f k = x) : upd f k x = f := by
  funext j
  by_cases e : j = k
  · rw [e, pk_us, h]
  · rw [pk_un e]
section
variable {post : Int32 → Prop} {K R a3 a4 a5 a6 : Nat → Int32}
theorem td_slot {s : Nat} (hs : s < 12) (hp : post 1) : wpX_isSlot post () (nI s) :=
  pk_lt s 0 (fun z => absurd z (by omega)) (fun _ => pk_le 12 s (fun z => absurd z (by omega)) (fun _ => hp))
theorem td_slot12 (hp : post 0) : wpX_isSlot post () 12 := br_f (by decide) (br_t (by decide) hp)
theorem td_slotm (hp : post 0) : wpX_isSlot post () (-1) := br_t (by decide) hp
theorem td_vert {v : Nat} (hv : v < 81) (hp : post 1) : wpX_isVertex post () (nI v) :=
  pk_lt v 0 (fun z => absurd z (by omega)) (fun _ => pk_le 81 v (fun z => absurd z (by omega)) (fun _ => hp))
theorem td_vert81 (hp : post 0) : wpX_isVertex post () 81 := br_f (by decide) (br_t (by decide) hp)
theorem td_row {s j : Nat} (hs : s < 12) (hj : j < 17) (hp : post (R (17 * s + j))) : wpX_row post (K, R, a3, a4, a5, a6) (nI s) (nI j) := by
  refine pk_lt j 0 (fun z => absurd z (by omega)) (fun _ => pk_lt j 17 (fun _ => ⟨?_, ?_⟩) (fun z => absurd z (by omega)))
  · rw [td_ix]; exact vp_in_nI (by omega) (by decide)
  · rw [td_ix, nI_clamp (by omega)]; exact hp
theorem td_rowU {s j : Nat} (hs : s < 12) (hj : j < 17) (hp : post (if j + 1 < 17 then R (17 * s + (j + 1)) else 0)) : wpX_row post (K, R, a3, a4, a5, a6) (nI s) (nI j + 1) := by
  rw [nI_1]
  by_cases h : j + 1 < 17
  · rw [if_pos h] at hp
    exact td_row hs h hp
  · rw [if_neg h] at hp
    exact pk_lt (j + 1) 0 (fun z => absurd z (by omega)) (fun _ => pk_lt (j + 1) 17 (fun z => absurd z (by omega)) (fun z => hp))
theorem td_rowD {s j : Nat} (hs : s < 12) (hj : j < 17) (hp : post (if 0 < j then R (17 * s + (j - 1)) else 0)) : wpX_row post (K, R, a3, a4, a5, a6) (nI s) (nI j - 1) := by
  by_cases h : 0 < j
  · rw [if_pos h] at hp
    rw [td_m1 h]
    exact td_row hs (by omega) hp
  · rw [if_neg h] at hp
    have e : j = 0 := by omega
    subst e
    exact br_t (by decide) hp
theorem td_takes1 {s : Nat} {k : Int32} (hs : s < 12) (h : K s = 0 ∨ K s = k) (hp : post 1) : wpX_takes post (K, R, a3, a4, a5, a6) (nI s) k := by
  refine ⟨pk_in s 12 hs, ?_⟩
  rw [nI_clamp (by omega)]
  exact br_c (fun _ => hp) (fun z => ⟨pk_in s 12 hs, br_t (h.resolve_left z) hp⟩)
theorem td_takes0 {s : Nat} {k : Int32} (hs : s < 12) (h : ¬ K s = 0) (h' : ¬ K s = k) (hp : post 0) : wpX_takes post (K, R, a3, a4, a5, a6) (nI s) k := by
  refine ⟨pk_in s 12 hs, ?_⟩
  rw [nI_clamp (by omega)]
  exact br_f h ⟨pk_in s 12 hs, br_f h' hp⟩
theorem td_pr0 {a b : Nat} (ha : a < 12) (hb : b < 12) (h : ¬ K a = 0) (h' : ¬ K b = 0) (hp : post 0) : wpX_pairRefusal post (K, R, a3, a4, a5, a6) (nI a) (nI b) := by
  unfold wpX_pairRefusal
  refine td_slot ha (br_f (by decide) (td_slot hb (br_f (by decide) ⟨pk_in a 12 ha, ?_⟩)))
  rw [nI_clamp (by omega), nI_clamp (by omega)]
  exact br_f h ⟨pk_in b 12 hb, br_f h' hp⟩
theorem td_pr2 {a b : Nat} (ha : a < 12) (hb : b < 12) (h : K a = 0 ∨ K b = 0) (hp : post (-2)) : wpX_pairRefusal post (K, R, a3, a4, a5, a6) (nI a) (nI b) := by
  unfold wpX_pairRefusal
  refine td_slot ha (br_f (by decide) (td_slot hb (br_f (by decide) ⟨pk_in a 12 ha, ?_⟩)))
  rw [nI_clamp (by omega), nI_clamp (by omega)]
  exact br_c (fun _ => hp) (fun z => ⟨pk_in b 12 hb, br_t (h.resolve_left z) hp⟩)
theorem td_pr1 {a : Nat} (ha : a < 12) (hp : post (-1)) : wpX_pairRefusal post (K, R, a3, a4, a5, a6) (nI a) 12 := by
  unfold wpX_pairRefusal
  exact td_slot ha (br_f (by decide) (td_slot12 (br_t rfl hp)))
theorem td_ar12 (hp : post (-1)) : wpX_areaRefusal post (K, R, a3, a4, a5, a6) 12 := by
  unfold wpX_areaRefusal
  exact td_slot12 (br_t rfl hp)
theorem td_arm1 (hp : post (-1)) : wpX_areaRefusal post (K, R, a3, a4, a5, a6) (-1) := by
  unfold wpX_areaRefusal
  exact td_slotm (br_t rfl hp)
theorem td_ar {s : Nat} (hs : s < 12) (hp : post (if K s = 0 then -2 else if K s = 3 then 0 else -3)) : wpX_areaRefusal post (K, R, a3, a4, a5, a6) (nI s) := by
  unfold wpX_areaRefusal
  refine td_slot hs (br_f (by decide) ⟨pk_in s 12 hs, ?_⟩)
  rw [nI_clamp (by omega)]
  refine br_c (fun z => ?_) (fun z => ⟨pk_in s 12 hs, br_c (fun z' => ?_) (fun z' => ?_)⟩)
  · rw [if_pos z] at hp; exact hp
  · rw [if_neg z, if_pos z'] at hp; exact hp
  · rw [if_neg z, if_neg z'] at hp; exact hp
theorem td_kind {s : Nat} (hs : s < 12) (hp : post (K s)) : wpX_kind post (K, R, a3, a4, a5, a6) (nI s) := by
  unfold wpX_kind
  refine td_slot hs (br_f (by decide) ⟨pk_in s 12 hs, ?_⟩)
  rw [nI_clamp (by omega)]
  exact hp
/-- how many times 'ones' goes round -/
def td_on : Nat → Int32 → Nat
  | 0, _ => 0
  | k + 1, w => if w = 0 then 0 else 1 + td_on k (w &&& (w - 1))
theorem td_onL : ∀ (d i m : Nat) (w : Int32), i + d = 17 → m ≤ i → post (nI (m + td_on d w)) → wX_ones_6 post (d + 1) (nI m) w (nI i)
  | 0, i, m, w, h, hm, hp => by
    have e : i = 17 := by omega
    subst e
    exact br_t (by decide) hp
  | d + 1, i, m, w, h, hm, hp => by
    refine br_f (nI_ge (b := 17) (by omega) (by decide)) (br_c (fun z => ?_) (fun z => nm_e (nm_r (nI_1 m) (nm_r (nI_1 i) (td_onL d (i + 1) (m + 1) _ (by omega) (by omega) ?_)))))
    · unfold td_on at hp
      rw [if_pos z] at hp
      exact hp
    · unfold td_on at hp
      rw [if_neg z] at hp
      rw [show m + 1 + td_on d (w &&& (w - 1)) = m + (1 + td_on d (w &&& (w - 1))) by omega]
      exact hp
theorem td_ones {w : Int32} (hp : post (nI (td_on 17 w))) : wpX_ones post () w :=
  ⟨18, td_onL 17 0 0 w rfl (by omega) (by rw [Nat.zero_add]; exact hp)⟩
theorem td_on_le : ∀ (k : Nat) (w : Int32), td_on k w ≤ k
  | 0, _ => Nat.le_refl 0
  | k + 1, w => by
    unfold td_on
    by_cases z : w = 0
    · rw [if_pos z]; omega
    · rw [if_neg z]
      have := td_on_le k (w &&& (w - 1))
      omega
theorem td_on_0 {w : Int32} : td_on 17 w = 0 ↔ w = 0 := by
  show (if w = 0 then 0 else 1 + td_on 16 (w &&& (w - 1))) = 0 ↔ w = 0
  by_cases z : w = 0
  · rw [if_pos z]; exact ⟨fun _ => z, fun _ => rfl⟩
  · rw [if_neg z]; exact ⟨fun h => absurd h (by omega), fun h => absurd h z⟩
/-- how many elements the first n words of r hold -/
def td_cn (r : Nat → Int32) : Nat → Nat
  | 0 => 0
  | n + 1 => td_cn r n + td_on 17 (r n)
theorem td_cn_le (r : Nat → Int32) : ∀ n, td_cn r n ≤ 17 * n
  | 0 => Nat.le_refl 0
  | n + 1 => by
    have h := td_cn_le r n
    have h2 := td_on_le 17 (r n)
    show td_cn r n + td_on 17 (r n) ≤ _
    omega
theorem td_cn_ag {r r' : Nat → Int32} : ∀ {n}, td_ag n r r' → td_cn r n = td_cn r' n
  | 0, _ => rfl
  | n + 1, h => by
    show td_cn r n + td_on 17 (r n) = td_cn r' n + td_on 17 (r' n)
    rw [td_cn_ag (fun j hj => h j (Nat.lt_succ_of_lt hj)), h n (Nat.lt_succ_self n)]
theorem td_cn_0 {r : Nat → Int32} : ∀ {n}, td_cn r n = 0 ↔ ∀ j, j < n → r j = 0
  | 0 => ⟨fun _ j hj => absurd hj (by omega), fun _ => rfl⟩
  | n + 1 => by
    show td_cn r n + td_on 17 (r n) = 0 ↔ _
    constructor
    · intro h j hj
      by_cases e : j = n
      · rw [e]; exact td_on_0.mp (by omega)
      · exact td_cn_0.mp (show td_cn r n = 0 by omega) j (by omega)
    · intro h
      have h1 := td_cn_0.mpr (fun j hj => h j (Nat.lt_succ_of_lt hj))
      have h2 := td_on_0.mpr (h n (Nat.lt_succ_self n))
      omega
/-- the words of a slot -/
def td_get (R : Nat → Int32) (s : Nat) : Nat → Int32 := fun j => R (17 * s + j)
def td_ct (R : Nat → Int32) (s : Nat) : Nat := td_cn (td_get R s) 17
theorem td_ct_le (R : Nat → Int32) (s : Nat) : td_ct R s ≤ 289 := td_cn_le _ 17
theorem td_ct_0 {R : Nat → Int32} {s : Nat} : td_ct R s = 0 ↔ ∀ j, j < 17 → R (17 * s + j) = 0 := td_cn_0
theorem td_count {s : Nat} (hs : s < 12) (hp : post (nI (td_ct R s))) : wpX_count post (K, R, a3, a4, a5, a6) (nI s) := by
  unfold wpX_count
  refine pk_loop (fun n i m => wX_count_4 post (nI s) K R a3 a4 a5 a6 n m (nI i)) (fun i m => m = nI (td_cn (td_get R s) i)) 17 0 0 (by omega) rfl ?_ ?_
  · intro n m h
    subst h
    exact br_t (by decide) hp
  · intro n i m hi h hw
    subst h
    refine br_f (nI_ge (b := 17) hi (by decide)) ⟨?_, ?_⟩
    · rw [td_ix]; exact vp_in_nI (by omega) (by decide)
    · rw [td_ix, nI_clamp (by omega)]
      exact td_ones (nm_r (nI_add _ _) (nm_r (nI_1 i) (hw _ rfl)))
theorem td_size {s : Nat} (hs : s < 12) (hp : post (nI (td_ct R s))) : wpX_size post (K, R, a3, a4, a5, a6) (nI s) := by
  unfold wpX_size
  exact td_slot hs (br_f (by decide) (td_count hs hp))
end
theorem td_settle {post : Int32 → St1 → Prop} {K R a3 a4 a5 a6 : Nat → Int32} {s : Nat} (hs : s < 12) (hp : post (nI (td_ct R s)) (if td_ct R s = 0 then upd K s 0 else K, R, a3, a4, a5, a6)) : wpX_settle post (K, R, a3, a4, a5, a6) (nI s) := by
  unfold wpX_settle
  have hl := td_ct_le R s
  refine td_count hs (pk_eq (td_ct R s) 0 (fun z => ⟨pk_in s 12 hs, nm_r (by rw [nI_clamp (by omega)]) ?_⟩) (fun z => ?_))
  · rw [if_pos z] at hp; exact hp
  · rw [if_neg z] at hp; exact hp
end
section
/-! ===== bits of a word (began as the family bt of BITS.to-paste) ===== -/
def td_bt (x : Int32) (i : Nat) : Bool := x.toBitVec.getLsbD i
theorem td_bext {x y : Int32} (h : ∀ i, i < 32 → td_bt x i = td_bt y i) : x = y := Int32.toBitVec_inj.mp (BitVec.eq_of_getLsbD_eq (fun i hi => h i hi))
theorem td_bor (x y : Int32) (i : Nat) : td_bt (x ||| y) i = (td_bt x i || td_bt y i) := by unfold td_bt; rw [Int32.toBitVec_or, BitVec.getLsbD_or]
theorem td_band (x y : Int32) (i : Nat) : td_bt (x &&& y) i = (td_bt x i && td_bt y i) := by unfold td_bt; rw [Int32.toBitVec_and, BitVec.getLsbD_and]
theorem td_bxor (x y : Int32) (i : Nat) : td_bt (x ^^^ y) i = (td_bt x i ^^ td_bt y i) := by unfold td_bt; rw [Int32.toBitVec_xor, BitVec.getLsbD_xor]
theorem td_s_l : ∀ n, n < 32 → ((nI n &&& 31).toBitVec.smod 32).toNat = n := by decide +kernel
theorem td_bshl (n : Nat) (hn : n < 32) (x : Int32) {i : Nat} (hi : i < 32) : td_bt (x <<< (nI n &&& 31)) i = (decide (n ≤ i) && td_bt x (i - n)) := by
  unfold td_bt
  rw [Int32.toBitVec_shiftLeft]
  show (x.toBitVec <<< ((nI n &&& 31).toBitVec.smod 32).toNat).getLsbD i = _
  rw [td_s_l n hn, BitVec.getLsbD_shiftLeft]
  rcases Nat.lt_or_ge i n with h | h
  · simp [h, Nat.not_le.mpr h]
  · simp [hi, h, Nat.not_lt.mpr h]
theorem td_bsshr (n : Nat) (hn : n < 32) (x : Int32) {i : Nat} (hi : i < 32) : td_bt (x >>> (nI n &&& 31)) i = if n + i < 32 then td_bt x (n + i) else td_bt x 31 := by
  unfold td_bt
  rw [Int32.toBitVec_shiftRight]
  show (x.toBitVec.sshiftRight ((nI n &&& 31).toBitVec.smod 32).toNat).getLsbD i = _
  rw [td_s_l n hn, BitVec.getLsbD_sshiftRight, BitVec.msb_eq_getLsbD_last]
  simp [hi]
theorem td_b1 : ∀ i, i < 32 → td_bt 1 i = decide (i = 0) := by decide +kernel
/-- a bit that is set already -/
theorem td_set1 {w : Int32} {k : Nat} (hk : k < 32) (h : ((w >>> (nI k &&& 31)) &&& 1) = 1) : w ||| ((1 : Int32) <<< (nI k &&& 31)) = w := by
  have hb : td_bt w k = true := by
    have e : td_bt ((w >>> (nI k &&& 31)) &&& 1) 0 = td_bt 1 0 := by rw [h]
    rw [td_band, td_bsshr k hk w (by omega), td_b1 0 (by omega)] at e
    simpa [hk] using e
  apply td_bext
  intro i hi
  rw [td_bor, td_bshl k hk 1 hi]
  rcases Nat.lt_or_ge i k with z | z
  · simp [Nat.not_le.mpr z]
  · rw [td_b1 (i - k) (by omega)]
    by_cases e : i = k
    · subst e; rw [hb]; rfl
    · have : ¬ i - k = 0 := by omega
      simp [this]
theorem td_a1 (x a : Int32) : (x ||| a) &&& a = a := by
  apply td_bext; intro i _
  rw [td_band, td_bor]
  generalize td_bt x i = p
  generalize td_bt a i = q
  revert p q; decide
theorem td_a2 (a b : Int32) : (a &&& b) ||| (a ^^^ b) = a ||| b := by
  apply td_bext; intro i _
  rw [td_bor, td_bor, td_band, td_bxor]
  generalize td_bt a i = p
  generalize td_bt b i = q
  revert p q; decide
theorem td_a3 (a b : Int32) : (a ^^^ b) ^^^ b = a := by
  apply td_bext; intro i _
  rw [td_bxor, td_bxor]
  generalize td_bt a i = p
  generalize td_bt b i = q
  revert p q; decide
theorem td_a4 (a : Int32) : a ||| a = a := by
  apply td_bext; intro i _
  rw [td_bor]
  generalize td_bt a i = p
  revert p; decide
theorem td_a5 (a : Int32) : a &&& a = a := by
  apply td_bext; intro i _
  rw [td_band]
  generalize td_bt a i = p
  revert p; decide
theorem td_b0 (i : Nat) : td_bt 0 i = false := BitVec.getLsbD_zero
theorem td_a6 {x a : Int32} (h : ¬ a = 0) : ¬ x ||| a = 0 := by
  intro e
  have z := td_a1 x a
  rw [e] at z
  apply h
  rw [← z]
  apply td_bext; intro i _
  rw [td_band, td_b0]
  rfl
theorem td_a7 {x a : Int32} (h : ¬ x = 0) : ¬ x ||| a = 0 := by
  have c : x ||| a = a ||| x := by
    apply td_bext; intro i _
    rw [td_bor, td_bor]
    exact Bool.or_comm _ _
  rw [c]
  exact td_a6 h
/-! ===== how many ones ===== -/
def td_tn (w : Int32) : Nat := w.toBitVec.toNat
def td_W (w : Int32) : Prop := td_tn w < 2 ^ 17
theorem td_tn_and (a b : Int32) : td_tn (a &&& b) = td_tn a &&& td_tn b := by
  unfold td_tn; rw [Int32.toBitVec_and, BitVec.toNat_and]
theorem td_tn_or (a b : Int32) : td_tn (a ||| b) = td_tn a ||| td_tn b := by
  unfold td_tn; rw [Int32.toBitVec_or, BitVec.toNat_or]
theorem td_tn_xor (a b : Int32) : td_tn (a ^^^ b) = td_tn a ^^^ td_tn b := by
  unfold td_tn; rw [Int32.toBitVec_xor, BitVec.toNat_xor]
theorem td_tn_0 {w : Int32} : td_tn w = 0 ↔ w = 0 := by
  constructor
  · intro h
    apply Int32.toBitVec_inj.mp
    exact BitVec.eq_of_toNat_eq h
  · intro h; rw [h]; rfl
theorem td_tn_m1 {w : Int32} (h : ¬ w = 0) : td_tn (w - 1) = td_tn w - 1 := by
  have h0 : ¬ td_tn w = 0 := fun z => h (td_tn_0.mp z)
  unfold td_tn at h0 ⊢
  rw [Int32.toBitVec_sub, BitVec.toNat_sub]
  have hl := w.toBitVec.isLt
  show (2 ^ 32 - 1 + w.toBitVec.toNat) % 2 ^ 32 = w.toBitVec.toNat - 1
  omega
theorem td_W0 : td_W 0 := by
  show td_tn 0 < 2 ^ 17
  decide
theorem td_Wor {a b : Int32} (ha : td_W a) (hb : td_W b) : td_W (a ||| b) := by
  unfold td_W; rw [td_tn_or]; exact Nat.or_lt_two_pow ha hb
theorem td_Wand {a b : Int32} (ha : td_W a) : td_W (a &&& b) := by
  unfold td_W; rw [td_tn_and]; exact Nat.lt_of_le_of_lt Nat.and_le_left ha
theorem td_Wxor {a b : Int32} (ha : td_W a) (hb : td_W b) : td_W (a ^^^ b) := by
  unfold td_W; rw [td_tn_xor]; exact Nat.xor_lt_two_pow ha hb
def td_pc : Nat → Nat → Nat
  | 0, _ => 0
  | k + 1, n => n % 2 + td_pc k (n / 2)
theorem td_pc_le : ∀ k n, td_pc k n ≤ k
  | 0, _ => Nat.le_refl 0
  | k + 1, n => by
    have := td_pc_le k (n / 2)
    show n % 2 + td_pc k (n / 2) ≤ _
    omega
theorem td_pc_0 : ∀ k, td_pc k 0 = 0
  | 0 => rfl
  | k + 1 => by
    show 0 % 2 + td_pc k (0 / 2) = 0
    rw [Nat.zero_div, td_pc_0 k]
theorem td_pc_dec : ∀ k n, 0 < n → n < 2 ^ k → td_pc k (n &&& (n - 1)) + 1 = td_pc k n
  | 0, n, h, h' => absurd h' (by have : 2 ^ 0 = 1 := rfl; omega)
  | k + 1, n, h, h' => by
    show (n &&& (n - 1)) % 2 + td_pc k ((n &&& (n - 1)) / 2) + 1 = n % 2 + td_pc k (n / 2)
    have e := @Nat.and_mod_two_eq_one n (n - 1)
    rw [Nat.and_div_two]
    have h2 : 2 ^ (k + 1) = 2 * 2 ^ k := by rw [Nat.pow_succ, Nat.mul_comm]
    by_cases o : n % 2 = 1
    · have e1 : (n - 1) / 2 = n / 2 := by omega
      rw [e1, Nat.and_self]
      omega
    · have e1 : (n - 1) / 2 = n / 2 - 1 := by omega
      rw [e1]
      have := td_pc_dec k (n / 2) (by omega) (by omega)
      omega
theorem td_pc_or : ∀ k a b, td_pc k (a ||| b) + td_pc k (a &&& b) = td_pc k a + td_pc k b
  | 0, _, _ => rfl
  | k + 1, a, b => by
    show ((a ||| b) % 2 + td_pc k ((a ||| b) / 2)) + ((a &&& b) % 2 + td_pc k ((a &&& b) / 2)) = (a % 2 + td_pc k (a / 2)) + (b % 2 + td_pc k (b / 2))
    have e1 := @Nat.and_mod_two_eq_one a b
    have e2 := @Nat.or_mod_two_eq_one a b
    have ih := td_pc_or k (a / 2) (b / 2)
    rw [Nat.and_div_two, Nat.or_div_two]
    omega
theorem td_pc_xor : ∀ k a b, td_pc k (a ^^^ b) + td_pc k (a &&& b) = td_pc k (a ||| b)
  | 0, _, _ => rfl
  | k + 1, a, b => by
    show ((a ^^^ b) % 2 + td_pc k ((a ^^^ b) / 2)) + ((a &&& b) % 2 + td_pc k ((a &&& b) / 2)) = ((a ||| b) % 2 + td_pc k ((a ||| b) / 2))
    have e1 := @Nat.and_mod_two_eq_one a b
    have e2 := @Nat.or_mod_two_eq_one a b
    have e3 := @Nat.xor_mod_two_eq_one a b
    have ih := td_pc_xor k (a / 2) (b / 2)
    rw [Nat.and_div_two, Nat.or_div_two, Nat.xor_div_two]
    omega
theorem td_on_pc : ∀ (k : Nat) (w : Int32), td_W w → td_pc 17 (td_tn w) ≤ k → td_on k w = td_pc 17 (td_tn w)
  | 0, w, _, h => by
    show 0 = _
    omega
  | k + 1, w, hw, h => by
    unfold td_on
    by_cases z : w = 0
    · rw [if_pos z, td_tn_0.mpr z, td_pc_0]
    · rw [if_neg z]
      have h0 : ¬ td_tn w = 0 := fun e => z (td_tn_0.mp e)
      have d := td_pc_dec 17 (td_tn w) (by omega) hw
      rw [← td_tn_m1 z, ← td_tn_and] at d
      rw [td_on_pc k _ (td_Wand hw) (by omega)]
      omega
theorem td_on17 {w : Int32} (hw : td_W w) : td_on 17 w = td_pc 17 (td_tn w) := td_on_pc 17 w hw (td_pc_le _ _)
theorem td_on_or {a b : Int32} (ha : td_W a) (hb : td_W b) : td_on 17 (a ||| b) + td_on 17 (a &&& b) = td_on 17 a + td_on 17 b := by
  rw [td_on17 ha, td_on17 hb, td_on17 (td_Wor ha hb), td_on17 (td_Wand ha), td_tn_or, td_tn_and]
  exact td_pc_or _ _ _
theorem td_on_xor {a b : Int32} (ha : td_W a) (hb : td_W b) : td_on 17 (a ^^^ b) + td_on 17 (a &&& b) = td_on 17 (a ||| b) := by
  rw [td_on17 (td_Wxor ha hb), td_on17 (td_Wor ha hb), td_on17 (td_Wand ha), td_tn_or, td_tn_and, td_tn_xor]
  exact td_pc_xor _ _ _
theorem td_cn_or {f g : Nat → Int32} : ∀ n, (∀ j, j < n → td_W (f j)) → (∀ j, j < n → td_W (g j)) → td_cn (fun j => f j ||| g j) n + td_cn (fun j => f j &&& g j) n = td_cn f n + td_cn g n
  | 0, _, _ => rfl
  | n + 1, hf, hg => by
    have ih := td_cn_or n (fun j hj => hf j (Nat.lt_succ_of_lt hj)) (fun j hj => hg j (Nat.lt_succ_of_lt hj))
    have h := td_on_or (hf n (Nat.lt_succ_self n)) (hg n (Nat.lt_succ_self n))
    show (td_cn (fun j => f j ||| g j) n + td_on 17 (f n ||| g n)) + (td_cn (fun j => f j &&& g j) n + td_on 17 (f n &&& g n)) = (td_cn f n + td_on 17 (f n)) + (td_cn g n + td_on 17 (g n))
    omega
theorem td_cn_xor {f g : Nat → Int32} : ∀ n, (∀ j, j < n → td_W (f j)) → (∀ j, j < n → td_W (g j)) → td_cn (fun j => f j ^^^ g j) n + td_cn (fun j => f j &&& g j) n = td_cn (fun j => f j ||| g j) n
  | 0, _, _ => rfl
  | n + 1, hf, hg => by
    have ih := td_cn_xor n (fun j hj => hf j (Nat.lt_succ_of_lt hj)) (fun j hj => hg j (Nat.lt_succ_of_lt hj))
    have h := td_on_xor (hf n (Nat.lt_succ_self n)) (hg n (Nat.lt_succ_self n))
    show (td_cn (fun j => f j ^^^ g j) n + td_on 17 (f n ^^^ g n)) + (td_cn (fun j => f j &&& g j) n + td_on 17 (f n &&& g n)) = (td_cn (fun j => f j ||| g j) n + td_on 17 (f n ||| g n))
    omega
end
section
/-! ===== lay ===== -/
def td_ain (j : Nat) (s u d : Int32) : Int32 :=
  if j % 2 = 1 then s ||| ((s <<< ((1 : Int32) &&& 31)) &&& (s >>> ((1 : Int32) &&& 31)))
  else (u &&& d) ||| ((((u <<< ((1 : Int32) &&& 31)) &&& (u >>> ((1 : Int32) &&& 31))) &&& (d <<< ((1 : Int32) &&& 31))) &&& (d >>> ((1 : Int32) &&& 31)))
def td_arm (j : Nat) (s u d : Int32) : Int32 :=
  if j % 2 = 1 then (s <<< ((1 : Int32) &&& 31)) ^^^ (s >>> ((1 : Int32) &&& 31))
  else (u ^^^ d) ||| (((((u <<< ((1 : Int32) &&& 31)) ||| (u >>> ((1 : Int32) &&& 31))) ||| (d <<< ((1 : Int32) &&& 31))) ||| (d >>> ((1 : Int32) &&& 31))) &&& (((((u <<< ((1 : Int32) &&& 31)) &&& (u >>> ((1 : Int32) &&& 31))) &&& (d <<< ((1 : Int32) &&& 31))) &&& (d >>> ((1 : Int32) &&& 31))) ^^^ (-1)))
def td_uev (s u d : Int32) : Int32 := (((s <<< ((1 : Int32) &&& 31)) ^^^ (s >>> ((1 : Int32) &&& 31))) ^^^ u) ^^^ d
def td_any (s u d : Int32) : Int32 := (((s <<< ((1 : Int32) &&& 31)) ||| (s >>> ((1 : Int32) &&& 31))) ||| u) ||| d
def td_nin (j : Nat) (s u d : Int32) : Int32 := if j % 2 = 0 then s ||| (td_any s u d &&& (td_uev s u d ^^^ (-1))) else s
def td_nrm (j : Nat) (s u d : Int32) : Int32 := if j % 2 = 0 then td_uev s u d else 0
def td_up (r : Nat → Int32) (j : Nat) : Int32 := if j + 1 < 17 then r (j + 1) else 0
def td_dn (r : Nat → Int32) (j : Nat) : Int32 := if 0 < j then r (j - 1) else 0
def td_lin (k : Int32) (r : Nat → Int32) (j : Nat) : Int32 :=
  if k = 3 then td_ain j (r j) (td_up r j) (td_dn r j) else if k = 2 then td_nin j (r j) (td_up r j) (td_dn r j) else r j
def td_lrm (k : Int32) (r : Nat → Int32) (j : Nat) : Int32 :=
  if k = 3 then td_arm j (r j) (td_up r j) (td_dn r j) else if k = 2 then td_nrm j (r j) (td_up r j) (td_dn r j) else 0
theorem td_par {j : Nat} (hj : j < 17) : nI j - nI j / 2 * 2 = nI (j % 2) := pk_rem (d := 2) (by omega) (by omega) (by omega)
section
variable {post : St1 → Prop} {K R a3 a4 a5 a6 : Nat → Int32} {s j p : Nat}
theorem td_layA (hs : s < 12) (hj : j < 17) (hpp : p < 34) (hp : post (K, R, upd a3 p (td_ain j (td_get R s j) (td_up (td_get R s) j) (td_dn (td_get R s) j)), upd a4 p (td_arm j (td_get R s j) (td_up (td_get R s) j) (td_dn (td_get R s) j)), a5, a6)) :
    wpX_layArea post (K, R, a3, a4, a5, a6) (nI s) (nI j) (nI p) := by
  unfold wpX_layArea
  refine ⟨by decide, pk_eq (j % 2) 1 (fun z => ?_) (fun z => ?_) (td_par hj)⟩
  · unfold td_ain td_arm at hp
    rw [if_pos z, if_pos z] at hp
    refine td_row hs hj (nm_e (nm_e ⟨pk_in p 34 hpp, nm_r ?_ ⟨pk_in p 34 hpp, nm_r ?_ hp⟩⟩))
    · rw [nI_clamp (by omega)]; rfl
    · rw [nI_clamp (by omega)]; rfl
  · unfold td_ain td_arm at hp
    rw [if_neg z, if_neg z] at hp
    refine td_rowU hs hj (td_rowD hs hj (nm_e (nm_e ⟨pk_in p 34 hpp, nm_r ?_ ⟨pk_in p 34 hpp, nm_r ?_ hp⟩⟩)))
    · rw [nI_clamp (by omega)]; rfl
    · rw [nI_clamp (by omega)]; rfl
theorem td_layN (hs : s < 12) (hj : j < 17) (hpp : p < 34) (hp : post (K, R, upd a3 p (td_nin j (td_get R s j) (td_up (td_get R s) j) (td_dn (td_get R s) j)), upd a4 p (td_nrm j (td_get R s j) (td_up (td_get R s) j) (td_dn (td_get R s) j)), a5, a6)) :
    wpX_layLine post (K, R, a3, a4, a5, a6) (nI s) (nI j) (nI p) := by
  unfold wpX_layLine
  have ec : (nI p).toNatClampNeg = p := nI_clamp (by omega)
  refine td_row hs hj ⟨pk_in p 34 hpp, nm_r (by rw [ec]) ⟨pk_in p 34 hpp, nm_r (by rw [ec]) ⟨by decide, pk_eq (j % 2) 0 (fun z => ?_) (fun z => ?_) (td_par hj)⟩⟩⟩
  · unfold td_nin td_nrm at hp
    rw [if_pos z, if_pos z] at hp
    refine td_rowU hs hj (td_rowD hs hj (nm_e (nm_e ⟨pk_in p 34 hpp, nm_r ?_ ⟨pk_in p 34 hpp, nm_r ?_ hp⟩⟩)))
    · rw [ec, td_uu]; rfl
    · rw [ec, td_uu]; rfl
  · unfold td_nin td_nrm at hp
    rw [if_neg z, if_neg z] at hp
    exact hp
/-- what lies below and beside after i rows -/
def td_laid (K R a3 a4 : Nat → Int32) (s w i : Nat) (f g : Nat → Int32) : Prop :=
  (∀ j, j < i → f (17 * w + j) = td_lin (K s) (td_get R s) j ∧ g (17 * w + j) = td_lrm (K s) (td_get R s) j) ∧ (∀ j, (j < 17 * w ∨ 17 * w + 17 ≤ j) → f j = a3 j ∧ g j = a4 j)
theorem td_laid1 {f g : Nat → Int32} {x y : Int32} {w i : Nat} (hi : i < 17) (h : td_laid K R a3 a4 s w i f g) (hx : x = td_lin (K s) (td_get R s) i) (hy : y = td_lrm (K s) (td_get R s) i) :
    td_laid K R a3 a4 s w (i + 1) (upd f (17 * w + i) x) (upd g (17 * w + i) y) := by
  refine ⟨fun j hj => ?_, fun j hj => ?_⟩
  · by_cases e : j = i
    · subst e
      rw [pk_us, pk_us]
      exact ⟨hx, hy⟩
    · rw [pk_un (show 17 * w + j ≠ 17 * w + i by omega), pk_un (show 17 * w + j ≠ 17 * w + i by omega)]
      exact h.1 j (by omega)
  · rw [pk_un (show j ≠ 17 * w + i by omega), pk_un (show j ≠ 17 * w + i by omega)]
    exact h.2 j hj
theorem td_lay {w : Nat} (hs : s < 12) (hw : w < 2) (hp : ∀ b3 b4, td_laid K R a3 a4 s w 17 b3 b4 → post (K, R, b3, b4, a5, a6)) : wpX_lay post (K, R, a3, a4, a5, a6) (nI s) (nI w) := by
  unfold wpX_lay
  refine pk_loop (fun n i t => wX_lay_2 post (nI s) (nI w) n (nI i) K R t.1 t.2 a5 a6) (fun i t => td_laid K R a3 a4 s w i t.1 t.2) 17 0 (a3, a4) (by omega) ⟨fun j hj => absurd hj (by omega), fun j _ => ⟨rfl, rfl⟩⟩ ?_ ?_
  · intro n t h
    exact br_t (by decide) (hp _ _ h)
  · intro n i t hi h hn
    obtain ⟨f, g⟩ := t
    have ec : (nI s).toNatClampNeg = s := nI_clamp (by omega)
    have ep : (nI (17 * w + i)).toNatClampNeg = 17 * w + i := nI_clamp (by omega)
    refine br_f (nI_ge (b := 17) hi (by decide)) (nm_r (td_ix w i) ⟨pk_in s 12 hs, ?_⟩)
    rw [ec]
    refine br_c (fun z => ?_) (fun z => ⟨pk_in s 12 hs, br_c (fun z' => ?_) (fun z' => ?_)⟩)
    · exact td_layA hs hi (by omega) (nm_r (nI_1 i) (hn (_, _) (td_laid1 hi h (by unfold td_lin; rw [if_pos z]) (by unfold td_lrm; rw [if_pos z]))))
    · exact td_layN hs hi (by omega) (nm_r (nI_1 i) (hn (_, _) (td_laid1 hi h (by unfold td_lin; rw [if_neg z, if_pos z']) (by unfold td_lrm; rw [if_neg z, if_pos z']))))
    · refine ⟨by rw [td_ix]; exact vp_in_nI (by omega) (by decide), pk_in (17 * w + i) 34 (by omega), nm_r (e' := upd f (17 * w + i) (R (17 * s + i))) (by rw [ep, td_ix, nI_clamp (by omega)]) ⟨pk_in (17 * w + i) 34 (by omega), nm_r (e' := upd g (17 * w + i) 0) (by rw [ep]) (nm_r (nI_1 i) (hn (upd f (17 * w + i) (R (17 * s + i)), upd g (17 * w + i) 0) (td_laid1 hi h ?_ ?_)))⟩⟩
      · unfold td_lin; rw [if_neg z, if_neg z']; rfl
      · unfold td_lrm; rw [if_neg z, if_neg z']
end
end
section
/-! ===== questions are determined: meetings ===== -/
theorem td_body {post : Int32 → Prop} {K R a3 a4 a5 a6 I M : Nat → Int32} {j : Nat} (hj : j < 34) (g3 : td_ag 34 a3 I) (g4 : td_ag 34 a4 M) (hp : post (I j ||| M j)) : wpX_body post (K, R, a3, a4, a5, a6) (nI j) := by
  unfold wpX_body
  refine ⟨pk_in j 34 hj, pk_in j 34 hj, ?_⟩
  rw [nI_clamp (by omega), g3 j hj, g4 j hj]
  exact hp
theorem td_partOf (I M : Nat → Int32) {w j : Nat} (hw : w < 2) (p : Int32) (hj : j < 17) :
    ∃ v, ∀ {post : Int32 → Prop} {K R a3 a4 a5 a6 : Nat → Int32}, td_ag 34 a3 I → td_ag 34 a4 M → post v → wpX_partOf post (K, R, a3, a4, a5, a6) (nI w) p (nI j) := by
  have hx : 17 * w + j < 34 := by omega
  by_cases h0 : p = 0
  · refine ⟨I (17 * w + j), ?_⟩
    intro post K R a3 a4 a5 a6 g3 g4 hp
    unfold wpX_partOf
    refine nm_r (td_ix w j) (br_t h0 ⟨pk_in _ 34 hx, ?_⟩)
    rw [nI_clamp (by omega), g3 _ hx]
    exact hp
  · by_cases h1 : p = 1
    · refine ⟨M (17 * w + j), ?_⟩
      intro post K R a3 a4 a5 a6 g3 g4 hp
      unfold wpX_partOf
      refine nm_r (td_ix w j) (br_f h0 (br_t h1 ⟨pk_in _ 34 hx, ?_⟩))
      rw [nI_clamp (by omega), g4 _ hx]
      exact hp
    · refine ⟨131071 &&& ((I (17 * w + j) ||| M (17 * w + j)) ^^^ (-1)), ?_⟩
      intro post K R a3 a4 a5 a6 g3 g4 hp
      unfold wpX_partOf
      refine nm_r (td_ix w j) (br_f h0 (br_f h1 ?_))
      unfold wpX_outside
      exact td_body hx g3 g4 hp
theorem td_dim (c x : Int32) : ∃ v, ∀ {post : Int32 → Prop}, post v → wpX_dimensionIn post () c x := by
  by_cases h : c = 0
  · refine ⟨0, ?_⟩
    intro post hp
    exact br_t h hp
  · by_cases h2 : (x - x / 2 * 2) = 1
    · by_cases h3 : (c &&& 43690) = 0
      · refine ⟨2, ?_⟩
        intro post hp
        exact br_f h ⟨by decide, br_t h2 (br_t h3 hp)⟩
      · refine ⟨3, ?_⟩
        intro post hp
        exact br_f h ⟨by decide, br_t h2 (br_f h3 hp)⟩
    · by_cases h3 : (c &&& 43690) = 0
      · refine ⟨1, ?_⟩
        intro post hp
        exact br_f h ⟨by decide, br_f h2 (br_t h3 hp)⟩
      · refine ⟨2, ?_⟩
        intro post hp
        exact br_f h ⟨by decide, br_f h2 (br_f h3 hp)⟩
theorem td_meetL (I M : Nat → Int32) (p q : Int32) : ∀ (d j : Nat), j + d = 17 → ∀ m : Int32,
    ∃ v, ∀ {post : Int32 → Prop} {K R a3 a4 a5 a6 : Nat → Int32}, td_ag 34 a3 I → td_ag 34 a4 M → post v → wX_meeting_17 post p q K R a3 a4 a5 a6 (d + 1) m (nI j)
  | 0, j, h, m => by
    have e : j = 17 := by omega
    subst e
    refine ⟨m, ?_⟩
    intro post K R a3 a4 a5 a6 g3 g4 hp
    exact br_t (by decide) hp
  | d + 1, j, h, m => by
    obtain ⟨u1, h1⟩ := td_partOf I M (w := 0) (j := j) (by omega) p (by omega)
    obtain ⟨u2, h2⟩ := td_partOf I M (w := 1) (j := j) (by omega) q (by omega)
    obtain ⟨u3, h3⟩ := td_dim (u1 &&& u2) (nI j)
    by_cases c : u3 ≤ m
    · obtain ⟨v, hv⟩ := td_meetL I M p q d (j + 1) (by omega) m
      refine ⟨v, ?_⟩
      intro post K R a3 a4 a5 a6 g3 g4 hp
      exact br_f (nI_ge (b := 17) (by omega) (by decide)) (h1 g3 g4 (h2 g3 g4 (nm_e (h3 (br_t c (nm_r (nI_1 j) (hv g3 g4 hp)))))))
    · obtain ⟨v, hv⟩ := td_meetL I M p q d (j + 1) (by omega) u3
      refine ⟨v, ?_⟩
      intro post K R a3 a4 a5 a6 g3 g4 hp
      exact br_f (nI_ge (b := 17) (by omega) (by decide)) (h1 g3 g4 (h2 g3 g4 (nm_e (h3 (br_f c (nm_r (nI_1 j) (hv g3 g4 hp)))))))
theorem td_meet (I M : Nat → Int32) (p q : Int32) : ∃ v, ∀ {post : Int32 → Prop} {K R a3 a4 a5 a6 : Nat → Int32}, td_ag 34 a3 I → td_ag 34 a4 M → post v → wpX_meeting post (K, R, a3, a4, a5, a6) p q := by
  obtain ⟨v, hv⟩ := td_meetL I M p q 17 0 rfl 0
  by_cases h : p = 2
  · by_cases h' : q = 2
    · refine ⟨3, ?_⟩
      intro post K R a3 a4 a5 a6 g3 g4 hp
      exact br_t h (br_t h' hp)
    · refine ⟨v, ?_⟩
      intro post K R a3 a4 a5 a6 g3 g4 hp
      exact br_t h (br_f h' ⟨18, hv g3 g4 hp⟩)
  · refine ⟨v, ?_⟩
    intro post K R a3 a4 a5 a6 g3 g4 hp
    exact br_f h ⟨18, hv g3 g4 hp⟩
theorem td_holds6 (I M : Nat → Int32) (k1 k2 : Int32) : ∃ v, ∀ {post : Int32 → Prop} {K R a3 a4 a5 a6 : Nat → Int32}, td_ag 34 a3 I → td_ag 34 a4 M → post v → wpX_holds post (K, R, a3, a4, a5, a6) 6 k1 k2 := by
  obtain ⟨u1, h1⟩ := td_meet I M 0 0
  obtain ⟨u2, h2⟩ := td_meet I M 0 2
  obtain ⟨u3, h3⟩ := td_meet I M 2 0
  by_cases c1 : k1 = k2
  · by_cases c2 : u1 = k1
    · by_cases c3 : u2 = 0
      · refine ⟨0, ?_⟩
        intro post K R a3 a4 a5 a6 g3 g4 hp
        unfold wpX_holds
        exact h1 g3 g4 (br_f (by decide) (br_t (by decide) (h2 g3 g4 (h3 g3 g4 (br_t c1 (br_t c2 (br_t c3 hp)))))))
      · by_cases c4 : u3 = 0
        · refine ⟨0, ?_⟩
          intro post K R a3 a4 a5 a6 g3 g4 hp
          unfold wpX_holds
          exact h1 g3 g4 (br_f (by decide) (br_t (by decide) (h2 g3 g4 (h3 g3 g4 (br_t c1 (br_t c2 (br_f c3 (br_t c4 hp))))))))
        · refine ⟨1, ?_⟩
          intro post K R a3 a4 a5 a6 g3 g4 hp
          unfold wpX_holds
          exact h1 g3 g4 (br_f (by decide) (br_t (by decide) (h2 g3 g4 (h3 g3 g4 (br_t c1 (br_t c2 (br_f c3 (br_f c4 hp))))))))
    · refine ⟨0, ?_⟩
      intro post K R a3 a4 a5 a6 g3 g4 hp
      unfold wpX_holds
      exact h1 g3 g4 (br_f (by decide) (br_t (by decide) (h2 g3 g4 (h3 g3 g4 (br_t c1 (br_f c2 hp))))))
  · refine ⟨0, ?_⟩
    intro post K R a3 a4 a5 a6 g3 g4 hp
    unfold wpX_holds
    exact h1 g3 g4 (br_f (by decide) (br_t (by decide) (h2 g3 g4 (h3 g3 g4 (br_f c1 hp)))))
/-- the two shapes that are laid down -/
def td_two (K : Nat → Int32) (R : Nat → Int32) (a b : Nat) (t : Int32 → (Nat → Int32) → Nat → Int32) (j : Nat) : Int32 := if j < 17 then t (K a) (td_get R a) j else t (K b) (td_get R b) (j - 17)
theorem td_two_ag {K R a3 a4 b3 b4 c3 c4 : Nat → Int32} {a b : Nat} (h : td_laid K R a3 a4 a 0 17 b3 b4) (h' : td_laid K R b3 b4 b 1 17 c3 c4) :
    td_ag 34 c3 (td_two K R a b td_lin) ∧ td_ag 34 c4 (td_two K R a b td_lrm) := by
  refine ⟨fun j hj => ?_, fun j hj => ?_⟩
  · unfold td_two
    by_cases z : j < 17
    · rw [if_pos z]
      rw [(h'.2 j (by omega)).1]
      have := (h.1 j z).1
      rw [show 17 * 0 + j = j by omega] at this
      exact this
    · rw [if_neg z]
      have := (h'.1 (j - 17) (by omega)).1
      rw [show 17 * 1 + (j - 17) = j by omega] at this
      exact this
  · unfold td_two
    by_cases z : j < 17
    · rw [if_pos z]
      rw [(h'.2 j (by omega)).2]
      have := (h.1 j z).2
      rw [show 17 * 0 + j = j by omega] at this
      exact this
    · rw [if_neg z]
      have := (h'.1 (j - 17) (by omega)).2
      rw [show 17 * 1 + (j - 17) = j by omega] at this
      exact this
theorem td_is6 (K R : Nat → Int32) {a b : Nat} (ha : a < 12) (hb : b < 12) : ∃ v, ∀ {post : Int32 → St1 → Prop} {a3 a4 a5 a6 : Nat → Int32}, (∀ b3 b4 b5 b6, post v (K, R, b3, b4, b5, b6)) → wpX_is post (K, R, a3, a4, a5, a6) (nI a) (nI b) 6 := by
  by_cases h : K a = 0 ∨ K b = 0
  · refine ⟨-2, ?_⟩
    intro post a3 a4 a5 a6 hp
    unfold wpX_is
    exact td_pr2 ha hb h (br_f (by decide) (hp _ _ _ _))
  · obtain ⟨u, hu⟩ := td_holds6 (td_two K R a b td_lin) (td_two K R a b td_lrm) (K a) (K b)
    have h1 : ¬ K a = 0 := fun z => h (Or.inl z)
    have h2 : ¬ K b = 0 := fun z => h (Or.inr z)
    have ea : (nI a).toNatClampNeg = a := nI_clamp (by omega)
    have eb : (nI b).toNatClampNeg = b := nI_clamp (by omega)
    by_cases c : u = 0
    · refine ⟨0, ?_⟩
      intro post a3 a4 a5 a6 hp
      unfold wpX_is
      refine td_pr0 ha hb h1 h2 (br_t rfl (br_f (by decide) (br_t (by decide) (td_lay (w := 0) ha (by omega) (fun b3 b4 h3 => td_lay (w := 1) hb (by omega) (fun c3 c4 h4 => ⟨pk_in a 12 ha, pk_in b 12 hb, ?_⟩))))))
      have g := td_two_ag h3 h4
      rw [ea, eb]
      exact hu g.1 g.2 (br_t c (hp _ _ _ _))
    · refine ⟨1, ?_⟩
      intro post a3 a4 a5 a6 hp
      unfold wpX_is
      refine td_pr0 ha hb h1 h2 (br_t rfl (br_f (by decide) (br_t (by decide) (td_lay (w := 0) ha (by omega) (fun b3 b4 h3 => td_lay (w := 1) hb (by omega) (fun c3 c4 h4 => ⟨pk_in a 12 ha, pk_in b 12 hb, ?_⟩))))))
      have g := td_two_ag h3 h4
      rw [ea, eb]
      exact hu g.1 g.2 (br_f c (hp _ _ _ _))
theorem td_pairsL (K R : Nat → Int32) : ∀ (d c : Nat), c + d = 144 → ∀ m : Int32, ∃ v, ∀ {post : Int32 → St1 → Prop} {a3 a4 a5 a6 : Nat → Int32}, (∀ b3 b4 b5 b6, post v (K, R, b3, b4, b5, b6)) → wX_pairs_17 post 6 (d + 1) m (nI c) K R a3 a4 a5 a6
  | 0, c, h, m => by
    have e : c = 144 := by omega
    subst e
    refine ⟨m, ?_⟩
    intro post a3 a4 a5 a6 hp
    exact br_t (by decide) (hp _ _ _ _)
  | d + 1, c, h, m => by
    have e1 : nI c / 12 = nI (c / 12) := pk_div (d := 12) (by omega) (by omega) (by omega)
    have e2 : nI c - nI c / 12 * 12 = nI (c % 12) := pk_rem (d := 12) (by omega) (by omega) (by omega)
    by_cases z : c / 12 = c % 12
    · obtain ⟨v, hv⟩ := td_pairsL K R d (c + 1) (by omega) m
      refine ⟨v, ?_⟩
      intro post a3 a4 a5 a6 hp
      exact br_f (nI_ge (b := 144) (by omega) (by decide)) ⟨by decide, nm_r e1 ⟨by decide, nm_r e2 (br_t (by rw [z]) (nm_r (nI_1 c) (hv hp)))⟩⟩
    · obtain ⟨u, hu⟩ := td_is6 K R (a := c / 12) (b := c % 12) (by omega) (by omega)
      have zz : ¬ nI (c / 12) = nI (c % 12) := fun g => z ((nI_eq (by omega) (by omega)).mp g)
      by_cases k : u = 1
      · obtain ⟨v, hv⟩ := td_pairsL K R d (c + 1) (by omega) (m + 1)
        refine ⟨v, ?_⟩
        intro post a3 a4 a5 a6 hp
        exact br_f (nI_ge (b := 144) (by omega) (by decide)) ⟨by decide, nm_r e1 ⟨by decide, nm_r e2 (br_f zz (hu (fun b3 b4 b5 b6 => br_t k (nm_e (nm_r (nI_1 c) (hv hp))))))⟩⟩
      · obtain ⟨v, hv⟩ := td_pairsL K R d (c + 1) (by omega) (m + 0)
        refine ⟨v, ?_⟩
        intro post a3 a4 a5 a6 hp
        exact br_f (nI_ge (b := 144) (by omega) (by decide)) ⟨by decide, nm_r e1 ⟨by decide, nm_r e2 (br_f zz (hu (fun b3 b4 b5 b6 => br_f k (nm_e (nm_r (nI_1 c) (hv hp))))))⟩⟩
theorem td_pairs6 (K R : Nat → Int32) : ∃ v, ∀ {post : Int32 → St1 → Prop} {a3 a4 a5 a6 : Nat → Int32}, (∀ b3 b4 b5 b6, post v (K, R, b3, b4, b5, b6)) → wpX_pairs post (K, R, a3, a4, a5, a6) 6 := by
  obtain ⟨v, hv⟩ := td_pairsL K R 144 0 rfl 0
  refine ⟨v, ?_⟩
  intro post a3 a4 a5 a6 hp
  unfold wpX_pairs
  exact br_f (by decide) (br_t (by decide) ⟨145, hv hp⟩)
theorem td_pairs7 {post : Int32 → St1 → Prop} {K R a3 a4 a5 a6 : Nat → Int32} (hp : post (-6) (K, R, a3, a4, a5, a6)) : wpX_pairs post (K, R, a3, a4, a5, a6) 7 := by
  unfold wpX_pairs
  exact br_f (by decide) (br_f (by decide) hp)
/-- two shapes that are laid down alike -/
theorem td_same {post : Int32 → Prop} {K R a3 a4 a5 a6 I M : Nat → Int32} (g3 : td_ag 34 a3 I) (g4 : td_ag 34 a4 M) (h : ∀ j, j < 17 → I j ||| M j = I (17 + j) ||| M (17 + j)) (hp : post 1) : wpX_sameBodies post (K, R, a3, a4, a5, a6) := by
  unfold wpX_sameBodies
  refine pk_loop (σ := Unit) (fun n i _ => wX_sameBodies_2 post K R a3 a4 a5 a6 n (nI i)) (fun _ _ => True) 17 0 () (by omega) trivial ?_ ?_
  · intro n _ _
    exact br_t (by decide) hp
  · intro n i _ hi _ hw
    refine br_f (nI_ge (b := 17) hi (by decide)) (td_body (by omega) g3 g4 ?_)
    rw [show (17 : Int32) + nI i = nI (17 + i) from nI_add 17 i]
    exact td_body (by omega) g3 g4 (br_t (h i hi) (nm_r (nI_1 i) (hw () trivial)))
theorem td_is0 {post : Int32 → St1 → Prop} {K R a3 a4 a5 a6 : Nat → Int32} {a b : Nat} (ha : a < 12) (hb : b < 12) (hk : K a = K b) (hr : td_ag 17 (td_get R a) (td_get R b)) (h1 : ¬ K a = 0) (hp : ∀ b3 b4, post 1 (K, R, b3, b4, a5, a6)) :
    wpX_is post (K, R, a3, a4, a5, a6) (nI a) (nI b) 0 := by
  have h2 : ¬ K b = 0 := fun z => h1 (hk.trans z)
  obtain ⟨u, hu⟩ := td_meet (td_two K R a b td_lin) (td_two K R a b td_lrm) 0 0
  unfold wpX_is
  refine td_pr0 ha hb h1 h2 (br_t rfl (br_f (by decide) (br_t (by decide) (td_lay (w := 0) ha (by omega) (fun b3 b4 h3 => td_lay (w := 1) hb (by omega) (fun c3 c4 h4 => ⟨pk_in a 12 ha, pk_in b 12 hb, ?_⟩))))))
  have g := td_two_ag h3 h4
  unfold wpX_holds
  refine hu g.1 g.2 (br_f (by decide) (br_f (by decide) (br_t rfl (td_same g.1 g.2 ?_ ⟨rfl, br_f (by decide) (hp _ _)⟩))))
  intro j hj
  have er : td_get R a j = td_get R b j := hr j hj
  have eu : td_up (td_get R a) j = td_up (td_get R b) j := by
    unfold td_up
    by_cases z : j + 1 < 17
    · rw [if_pos z, if_pos z]; exact hr _ z
    · rw [if_neg z, if_neg z]
  have ed : td_dn (td_get R a) j = td_dn (td_get R b) j := by
    unfold td_dn
    by_cases z : 0 < j
    · rw [if_pos z, if_pos z]; exact hr _ (by omega)
    · rw [if_neg z, if_neg z]
  unfold td_two
  rw [if_pos hj, if_pos hj, if_neg (show ¬ 17 + j < 17 by omega), if_neg (show ¬ 17 + j < 17 by omega), show 17 + j - 17 = j by omega]
  unfold td_lin td_lrm
  rw [hk, er, eu, ed]
end
section
/-! ===== growing over the grid ===== -/
theorem td_ag_upd {n j : Nat} {f g : Nat → Int32} (x : Int32) (h : td_ag n f g) : td_ag n (upd f j x) (upd g j x) := by
  intro i hi
  by_cases e : i = j
  · rw [e, pk_us, pk_us]
  · rw [pk_un e, pk_un e]; exact h i hi
theorem td_sp80 {post : St1 → Prop} {J4 J19 : Int32 → Int32 → (Nat → Int32) → (Nat → Int32) → (Nat → Int32) → (Nat → Int32) → (Nat → Int32) → (Nat → Int32) → Prop} {m x2 x4 z0 z1 : Int32} {K R a3 a4 a5 a6 G : Nat → Int32} {j : Nat} (hj : j < 17) (g5 : td_ag 17 a5 G)
    (hp : J19 (if m = 0 then (if ((z1 ||| z0) &&& G j) = x4 then 0 else 1) else 1) (nI (j + 1)) K R a3 a4 a5 (upd a6 j ((z1 ||| z0) &&& G j))) : wX_spread_80 post J4 J19 m x2 (nI j) x4 z0 z1 K R a3 a4 a5 a6 := by
  have ec : (nI j).toNatClampNeg = j := nI_clamp (by omega)
  unfold wX_spread_80
  refine nm_e ⟨pk_in j 17 hj, pk_in j 17 hj, nm_r (e' := upd a6 j ((z1 ||| z0) &&& G j)) (by rw [ec, g5 j hj]) ?_⟩
  refine br_c (fun z => ⟨pk_in j 17 hj, ?_⟩) (fun z => ?_)
  · rw [ec, pk_us]
    rw [if_pos z] at hp
    refine br_c (fun z' => ?_) (fun z' => ?_)
    · rw [if_pos z'] at hp; exact nm_r (nI_1 j) hp
    · rw [if_neg z'] at hp; exact nm_r (nI_1 j) hp
  · rw [if_neg z] at hp
    exact nm_r (nI_1 j) hp
def td_nr (H : Nat → Int32) (j : Nat) : Int32 := (((H j ||| (H j <<< ((1 : Int32) &&& 31))) ||| (H j >>> ((1 : Int32) &&& 31))) ||| td_dn H j) ||| td_up H j
theorem td_spL (G : Nat → Int32) : ∀ (d j : Nat), j + d = 17 → ∀ (m : Int32) (H : Nat → Int32), ∃ (m' : Int32) (H' : Nat → Int32),
    ∀ {post : St1 → Prop} {J4 : Int32 → Int32 → (Nat → Int32) → (Nat → Int32) → (Nat → Int32) → (Nat → Int32) → (Nat → Int32) → (Nat → Int32) → Prop} {x2 : Int32} {K R a3 a4 a5 a6 : Nat → Int32}, td_ag 17 a5 G → td_ag 17 a6 H → (∀ b6, td_ag 17 b6 H' → J4 m' (x2 + 1) K R a3 a4 a5 b6) → wX_spread_19 post J4 x2 (d + 1) m (nI j) K R a3 a4 a5 a6
  | 0, j, h, m, H => by
    have e : j = 17 := by omega
    subst e
    refine ⟨m, H, ?_⟩
    intro post J4 x2 K R a3 a4 a5 a6 g5 g6 hp
    exact br_t (by decide) (nm_e (hp _ g6))
  | d + 1, j, h, m, H => by
    have hj : j < 17 := by omega
    obtain ⟨m', H', hv⟩ := td_spL G d (j + 1) (by omega) (if m = 0 then (if (td_nr H j &&& G j) = H j then 0 else 1) else 1) (upd H j (td_nr H j &&& G j))
    refine ⟨m', H', ?_⟩
    intro post J4 x2 K R a3 a4 a5 a6 g5 g6 hp
    have s : a6 (nI j).toNatClampNeg = H j := by rw [nI_clamp (by omega)]; exact g6 j hj
    have key : ∀ u w : Int32, u = td_dn H j → w = td_up H j → wX_spread_80 post J4 (wX_spread_19 post J4 x2 (d + 1)) m x2 (nI j) (H j) w (((H j ||| (H j <<< ((1 : Int32) &&& 31))) ||| (H j >>> ((1 : Int32) &&& 31))) ||| u) K R a3 a4 a5 a6 := by
      intro u w hu hw
      subst hu
      subst hw
      exact td_sp80 hj g5 (hv g5 (td_ag_upd _ g6) hp)
    have key2 : ∀ u : Int32, u = td_dn H j → wX_spread_61 post J4 (wX_spread_19 post J4 x2 (d + 1)) m x2 (nI j) (H j) u ((H j ||| (H j <<< ((1 : Int32) &&& 31))) ||| (H j >>> ((1 : Int32) &&& 31))) K R a3 a4 a5 a6 := by
      intro u hu
      unfold wX_spread_61
      refine pk_le 16 j (fun z => key u 0 hu ?_) (fun z => ⟨pk_in (j + 1) 17 (by omega) (nI_1 j), key u _ hu ?_⟩)
      · unfold td_up; rw [if_neg (by omega)]
      · unfold td_up; rw [if_pos (by omega), nI_1, nI_clamp (by omega)]; exact g6 _ (by omega)
    refine br_f (nI_ge (b := 17) hj (by decide)) ⟨pk_in j 17 hj, nm_r s (pk_le j 0 (fun z => key2 0 ?_) (fun z => ⟨pk_in (j - 1) 17 (by omega) (td_m1 (by omega)), key2 _ ?_⟩))⟩
    · unfold td_dn; rw [if_neg (by omega)]
    · unfold td_dn; rw [if_pos (by omega), td_m1 (by omega), nI_clamp (by omega)]; exact g6 _ (by omega)
theorem td_spO (G : Nat → Int32) : ∀ (d r : Nat), r + d = 300 → ∀ (m : Int32) (H : Nat → Int32), ∃ H' : Nat → Int32,
    ∀ {post : St1 → Prop} {K R a3 a4 a5 a6 : Nat → Int32}, td_ag 17 a5 G → td_ag 17 a6 H → (∀ b6, td_ag 17 b6 H' → post (K, R, a3, a4, a5, b6)) → wX_spread_4 post (d + 1) m (nI r) K R a3 a4 a5 a6
  | 0, r, h, m, H => by
    have e : r = 300 := by omega
    subst e
    refine ⟨H, ?_⟩
    intro post K R a3 a4 a5 a6 g5 g6 hp
    exact br_t (by decide) (hp _ g6)
  | d + 1, r, h, m, H => by
    by_cases c : m = 0
    · refine ⟨H, ?_⟩
      intro post K R a3 a4 a5 a6 g5 g6 hp
      exact br_f (nI_ge (b := 300) (by omega) (by decide)) (br_t c (hp _ g6))
    · obtain ⟨m', H1, h1⟩ := td_spL G 17 0 rfl 0 H
      obtain ⟨H', h2⟩ := td_spO G d (r + 1) (by omega) m' H1
      refine ⟨H', ?_⟩
      intro post K R a3 a4 a5 a6 g5 g6 hp
      refine br_f (nI_ge (b := 300) (by omega) (by decide)) (br_f c ⟨18, h1 g5 g6 (fun b6 g => ?_)⟩)
      rw [nI_1]
      exact h2 g5 g hp
theorem td_spread (G H : Nat → Int32) : ∃ H' : Nat → Int32,
    ∀ {post : St1 → Prop} {K R a3 a4 a5 a6 : Nat → Int32}, td_ag 17 a5 G → td_ag 17 a6 H → (∀ b6, td_ag 17 b6 H' → post (K, R, a3, a4, a5, b6)) → wpX_spread post (K, R, a3, a4, a5, a6) := by
  obtain ⟨H', h⟩ := td_spO G 300 0 rfl 1 H
  refine ⟨H', ?_⟩
  intro post K R a3 a4 a5 a6 g5 g6 hp
  unfold wpX_spread
  exact ⟨301, h g5 g6 hp⟩
theorem td_take {G H : Nat → Int32} {post : St1 → Prop} {K R a3 a4 a5 a6 : Nat → Int32} (g5 : td_ag 17 a5 G) (g6 : td_ag 17 a6 H)
    (hp : ∀ b5 b6, td_ag 17 b5 (fun j => G j &&& (H j ^^^ (-1))) → td_ag 17 b6 (fun _ => 0) → post (K, R, a3, a4, b5, b6)) : wpX_takeAway post (K, R, a3, a4, a5, a6) := by
  unfold wpX_takeAway
  refine pk_loop (fun n i t => wX_takeAway_2 post n (nI i) K R a3 a4 t.1 t.2) (fun i t => (∀ j, j < i → t.1 j = G j &&& (H j ^^^ (-1)) ∧ t.2 j = 0) ∧ (∀ j, i ≤ j → j < 17 → t.1 j = G j ∧ t.2 j = H j)) 17 0 (a5, a6) (by omega) ⟨fun j hj => absurd hj (by omega), fun j _ hj => ⟨g5 j hj, g6 j hj⟩⟩ ?_ ?_
  · intro n t h
    exact br_t (by decide) (hp _ _ (fun j hj => (h.1 j hj).1) (fun j hj => (h.1 j hj).2))
  · intro n i t hi h hw
    obtain ⟨f, g⟩ := t
    have ec : (nI i).toNatClampNeg = i := nI_clamp (by omega)
    have hf : f i = G i := (h.2 i (by omega) hi).1
    have hg : g i = H i := (h.2 i (by omega) hi).2
    refine br_f (nI_ge (b := 17) hi (by decide)) ⟨pk_in i 17 hi, pk_in i 17 hi, pk_in i 17 hi, nm_r (e' := upd f i (G i &&& (H i ^^^ (-1)))) (by rw [ec]; show upd f i (f i &&& (g i ^^^ (-1))) = _; rw [hf, hg]) ⟨pk_in i 17 hi, nm_r (e' := upd g i 0) (by show upd g _ _ = _; rw [ec]) (nm_r (nI_1 i) (hw (_, _) ⟨fun j hj => ?_, fun j hj hj' => ?_⟩))⟩⟩
    · by_cases e : j = i
      · subst e; exact ⟨pk_us, pk_us⟩
      · exact ⟨(pk_un e).trans (h.1 j (by omega)).1, (pk_un e).trans (h.1 j (by omega)).2⟩
    · have e : j ≠ i := by omega
      exact ⟨(pk_un e).trans (h.2 j (by omega) hj').1, (pk_un e).trans (h.2 j (by omega) hj').2⟩
theorem td_cp33 {x : Nat} (hx : x < 17) : ∀ (d i : Nat), i + d = 17 → ∀ (m : Int32) (G H : Nat → Int32), ∃ (m' : Int32) (G' H' : Nat → Int32),
    ∀ {post : Int32 → St1 → Prop} {J25 : Int32 → Int32 → (Nat → Int32) → (Nat → Int32) → (Nat → Int32) → (Nat → Int32) → (Nat → Int32) → (Nat → Int32) → Prop} {K R a3 a4 a5 a6 : Nat → Int32}, td_ag 17 a5 G → td_ag 17 a6 H → (∀ b5 b6, td_ag 17 b5 G' → td_ag 17 b6 H' → J25 m' (nI (x + 1)) K R a3 a4 b5 b6) → wX_countPieces_33 post J25 (nI x) (d + 1) m (nI i) K R a3 a4 a5 a6
  | 0, i, h, m, G, H => by
    have e : i = 17 := by omega
    subst e
    refine ⟨m, G, H, ?_⟩
    intro post J25 K R a3 a4 a5 a6 g5 g6 hp
    exact br_t (by decide) (nm_r (nI_1 x) (hp _ _ g5 g6))
  | d + 1, i, h, m, G, H => by
    have ec : (nI x).toNatClampNeg = x := nI_clamp (by omega)
    by_cases c : G x = 0
    · refine ⟨m, G, H, ?_⟩
      intro post J25 K R a3 a4 a5 a6 g5 g6 hp
      exact br_f (nI_ge (b := 17) (by omega) (by decide)) ⟨pk_in x 17 hx, br_t (by rw [ec, g5 x hx, c]) (nm_r (nI_1 x) (hp _ _ g5 g6))⟩
    · obtain ⟨H1, h1⟩ := td_spread G (upd H x (G x &&& (-(G x))))
      obtain ⟨m', G', H', h2⟩ := td_cp33 hx d (i + 1) (by omega) (m + 1) (fun j => G j &&& (H1 j ^^^ (-1))) (fun _ => 0)
      refine ⟨m', G', H', ?_⟩
      intro post J25 K R a3 a4 a5 a6 g5 g6 hp
      refine br_f (nI_ge (b := 17) (by omega) (by decide)) ⟨pk_in x 17 hx, br_f (by rw [ec, g5 x hx]; exact c) ⟨pk_in x 17 hx, pk_in x 17 hx, pk_in x 17 hx, nm_r (e' := upd a6 x (G x &&& (-(G x)))) (by rw [ec, g5 x hx]) ?_⟩⟩
      exact h1 g5 (td_ag_upd _ g6) (fun b6 k6 => td_take g5 k6 (fun c5 c6 k5 k6' => nm_e (nm_r (nI_1 i) (h2 k5 k6' hp))))
theorem td_cp25 : ∀ (d j : Nat), j + d = 17 → ∀ (m : Int32) (G H : Nat → Int32), ∃ v : Int32,
    ∀ {post : Int32 → St1 → Prop} {K R a3 a4 a5 a6 : Nat → Int32}, td_ag 17 a5 G → td_ag 17 a6 H → (∀ b5 b6, post v (K, R, a3, a4, b5, b6)) → wX_countPieces_25 post (d + 1) m (nI j) K R a3 a4 a5 a6
  | 0, j, h, m, G, H => by
    have e : j = 17 := by omega
    subst e
    refine ⟨m, ?_⟩
    intro post K R a3 a4 a5 a6 g5 g6 hp
    exact br_t (by decide) (hp _ _)
  | d + 1, j, h, m, G, H => by
    obtain ⟨m', G', H', h1⟩ := td_cp33 (x := j) (by omega) 17 0 rfl m G H
    obtain ⟨v, h2⟩ := td_cp25 d (j + 1) (by omega) m' G' H'
    refine ⟨v, ?_⟩
    intro post K R a3 a4 a5 a6 g5 g6 hp
    exact br_f (nI_ge (b := 17) (by omega) (by decide)) ⟨18, h1 g5 g6 (fun b5 b6 k5 k6 => h2 k5 k6 hp)⟩
theorem td_cpieces (G : Nat → Int32) : ∃ v : Int32, ∀ {post : Int32 → St1 → Prop} {K R a3 a4 a5 a6 : Nat → Int32}, td_ag 17 a5 G → (∀ b5 b6, post v (K, R, a3, a4, b5, b6)) → wpX_countPieces post (K, R, a3, a4, a5, a6) := by
  obtain ⟨v, hv⟩ := td_cp25 17 0 rfl 0 G (fun _ => 0)
  refine ⟨v, ?_⟩
  intro post K R a3 a4 a5 a6 g5 hp
  unfold wpX_countPieces
  refine pk_loop (fun n i t => wX_countPieces_4 post 0 n (nI i) K R a3 a4 a5 t) (fun i t => ∀ j, j < i → t j = 0) 17 0 a6 (by omega) (fun j hj => absurd hj (by omega)) ?_ ?_
  · intro n t h
    exact br_t (by decide) ⟨18, hv g5 h hp⟩
  · intro n i t hi h hw
    refine br_f (nI_ge (b := 17) hi (by decide)) ⟨pk_in i 17 hi, nm_r (e' := upd t i 0) (by rw [nI_clamp (by omega)]) (nm_r (nI_1 i) (hw _ (fun j hj => ?_)))⟩
    by_cases e : j = i
    · rw [e, pk_us]
    · rw [pk_un e]; exact h j (by omega)
theorem td_pieces (K R : Nat → Int32) {s : Nat} (hs : s < 12) : ∃ v : Int32, ∀ {post : Int32 → St1 → Prop} {a3 a4 a5 a6 : Nat → Int32}, (∀ b3 b4 b5 b6, post v (K, R, b3, b4, b5, b6)) → wpX_pieces post (K, R, a3, a4, a5, a6) (nI s) := by
  have ec : (nI s).toNatClampNeg = s := nI_clamp (by omega)
  by_cases h : K s = 0
  · refine ⟨-2, ?_⟩
    intro post a3 a4 a5 a6 hp
    unfold wpX_pieces
    exact td_slot hs (br_f (by decide) ⟨pk_in s 12 hs, br_t (by rw [ec]; exact h) (hp _ _ _ _)⟩)
  · obtain ⟨v, hv⟩ := td_cpieces (fun j => if K s = 3 then td_lin (K s) (td_get R s) j else td_lin (K s) (td_get R s) j ||| td_lrm (K s) (td_get R s) j)
    refine ⟨v, ?_⟩
    intro post a3 a4 a5 a6 hp
    unfold wpX_pieces
    refine td_slot hs (br_f (by decide) ⟨pk_in s 12 hs, br_f (by rw [ec]; exact h) (td_lay (w := 0) hs (by omega) (fun b3 b4 g => ?_))⟩)
    have g3 : ∀ j, j < 17 → b3 j = td_lin (K s) (td_get R s) j := by
      intro j hj
      have := (g.1 j hj).1
      rw [show 17 * 0 + j = j by omega] at this
      exact this
    have g4 : ∀ j, j < 17 → b4 j = td_lrm (K s) (td_get R s) j := by
      intro j hj
      have := (g.1 j hj).2
      rw [show 17 * 0 + j = j by omega] at this
      exact this
    refine pk_loop (fun n i t => wX_pieces_29 post (nI s) n (nI i) K R b3 b4 t a6) (fun i t => td_ag i t (fun j => if K s = 3 then td_lin (K s) (td_get R s) j else td_lin (K s) (td_get R s) j ||| td_lrm (K s) (td_get R s) j)) 17 0 a5 (by omega) (fun j hj => absurd hj (by omega)) ?_ ?_
    · intro n t k
      exact br_t (by decide) (hv k (fun b5 b6 => hp _ _ _ _))
    · intro n i t hi k hw
      have ei : (nI i).toNatClampNeg = i := nI_clamp (by omega)
      have F : ∀ x : Int32, x = (if K s = 3 then td_lin (K s) (td_get R s) i else td_lin (K s) (td_get R s) i ||| td_lrm (K s) (td_get R s) i) → td_ag (i + 1) (upd t i x) (fun j => if K s = 3 then td_lin (K s) (td_get R s) j else td_lin (K s) (td_get R s) j ||| td_lrm (K s) (td_get R s) j) := by
        intro x hx j hj
        by_cases e : j = i
        · rw [e, pk_us, hx]
        · rw [pk_un e]; exact k j (by omega)
      refine br_f (nI_ge (b := 17) hi (by decide)) ⟨pk_in s 12 hs, ?_⟩
      rw [ec]
      refine br_c (fun z => ⟨pk_in i 34 (by omega), pk_in i 17 hi, nm_r (e' := upd t i (b3 i)) (by rw [ei]) (nm_r (nI_1 i) (hw _ (F _ ?_)))⟩) (fun z => ?_)
      · rw [if_pos z]; exact g3 i hi
      · unfold wpX_body
        refine ⟨pk_in i 34 (by omega), pk_in i 34 (by omega), pk_in i 17 hi, nm_r (e' := upd t i (b3 i ||| b4 i)) (by rw [ei]) (nm_r (nI_1 i) (hw _ (F _ ?_)))⟩
        rw [if_neg z, g3 i hi, g4 i hi]
end
section
/-! ===== distances ===== -/
theorem td_2 (n : Nat) : 2 * nI n = nI (2 * n) := pk_mul 2 n
def td_bd (I M : Nat → Int32) (j : Nat) : Int32 := I j ||| M j
def td_x5 (I M : Nat → Int32) (a i : Nat) : Int32 := ((td_bd I M (2 * i) &&& 87381) <<< ((2 * nI a) &&& 31)) ||| ((td_bd I M (2 * i) &&& 87381) >>> ((2 * nI a) &&& 31))
def td_ab (I M : Nat → Int32) (u i : Nat) : Int32 := if 17 ≤ 2 * i + 2 * u then 0 else td_bd I M (17 + (2 * i + 2 * u))
def td_un (I M : Nat → Int32) (u i : Nat) : Int32 := if 2 * i < 2 * u then 0 else td_bd I M (17 + 2 * i - 2 * u)
theorem td_smS {I M : Nat → Int32} {a u i n : Nat} (hi : i < 9) (hu : u < 9) {post : Int32 → Prop} {K R a3 a4 a5 a6 : Nat → Int32} (g3 : td_ag 34 a3 I) (g4 : td_ag 34 a4 M)
    (hp : wX_shiftedMeet_85 post (wX_shiftedMeet_2 post (nI a) (nI u) K R a3 a4 a5 a6 n) (nI a) (nI u) (nI (2 * i)) (td_x5 I M a i) (td_ab I M u i) (td_un I M u i) K R a3 a4 a5 a6) :
    wX_shiftedMeet_2 post (nI a) (nI u) K R a3 a4 a5 a6 (n + 1) (nI (2 * i)) := by
  have key : ∀ z : Int32, z = td_ab I M u i → wX_shiftedMeet_59 post (wX_shiftedMeet_2 post (nI a) (nI u) K R a3 a4 a5 a6 n) (nI a) (nI u) (nI (2 * i)) (td_x5 I M a i) z K R a3 a4 a5 a6 := by
    intro z hz
    subst hz
    unfold wX_shiftedMeet_59
    rw [td_2]
    by_cases c : 2 * i < 2 * u
    · refine br_t (pk_sneg (by omega) c) ?_
      unfold td_un at hp
      rw [if_pos c] at hp
      exact hp
    · have e : nI (2 * i) - nI (2 * u) = nI (2 * i - 2 * u) := pk_sub (by omega)
      refine br_f (by rw [e]; exact nI_pos (by omega)) ?_
      have e2 : (17 : Int32) + nI (2 * i) - nI (2 * u) = nI (17 + 2 * i - 2 * u) := by
        rw [show (17 : Int32) + nI (2 * i) = nI (17 + 2 * i) from nI_add 17 (2 * i)]
        exact pk_sub (by omega)
      rw [e2]
      unfold td_un at hp
      rw [if_neg c] at hp
      exact td_body (by omega) g3 g4 hp
  refine pk_le 17 (2 * i) (fun z => absurd z (by omega)) (fun _ => td_body (by omega) g3 g4 (nm_e (nm_e ?_)))
  rw [td_2 u, nI_add, show (17 : Int32) + nI (2 * i) = nI (17 + 2 * i) from nI_add 17 (2 * i), nI_add]
  refine pk_le 17 (2 * i + 2 * u) (fun z => key 0 ?_) (fun z => ?_)
  · unfold td_ab; rw [if_pos z]
  · refine td_body (by omega) g3 g4 (key _ ?_)
    unfold td_ab td_bd
    rw [if_neg (by omega), show 17 + 2 * i + 2 * u = 17 + (2 * i + 2 * u) by omega]
theorem td_smL (I M : Nat → Int32) (a : Nat) {u : Nat} (hu : u < 9) : ∀ (d i : Nat), i + d = 9 → ∃ v : Int32,
    ∀ {post : Int32 → Prop} {K R a3 a4 a5 a6 : Nat → Int32}, td_ag 34 a3 I → td_ag 34 a4 M → post v → wX_shiftedMeet_2 post (nI a) (nI u) K R a3 a4 a5 a6 (d + 1) (nI (2 * i))
  | 0, i, h => by
    have e : i = 9 := by omega
    subst e
    refine ⟨0, ?_⟩
    intro post K R a3 a4 a5 a6 g3 g4 hp
    exact br_t (by decide) hp
  | d + 1, i, h => by
    by_cases c : ((td_x5 I M a i &&& 87381) &&& (td_ab I M u i ||| td_un I M u i)) = 0
    · obtain ⟨v, hv⟩ := td_smL I M a hu d (i + 1) (by omega)
      refine ⟨v, ?_⟩
      intro post K R a3 a4 a5 a6 g3 g4 hp
      refine td_smS (by omega) hu g3 g4 ?_
      unfold wX_shiftedMeet_85
      exact br_t c (nm_r (show nI (2 * i) + 2 = nI (2 * (i + 1)) from nI_add (2 * i) 2) (hv g3 g4 hp))
    · refine ⟨1, ?_⟩
      intro post K R a3 a4 a5 a6 g3 g4 hp
      refine td_smS (by omega) hu g3 g4 ?_
      unfold wX_shiftedMeet_85
      exact br_f c hp
theorem td_sm (I M : Nat → Int32) (a : Nat) {u : Nat} (hu : u < 9) : ∃ v : Int32,
    ∀ {post : Int32 → Prop} {K R a3 a4 a5 a6 : Nat → Int32}, td_ag 34 a3 I → td_ag 34 a4 M → post v → wpX_shiftedMeet post (K, R, a3, a4, a5, a6) (nI a) (nI u) := by
  obtain ⟨v, hv⟩ := td_smL I M a hu 9 0 rfl
  refine ⟨v, ?_⟩
  intro post K R a3 a4 a5 a6 g3 g4 hp
  unfold wpX_shiftedMeet
  exact ⟨10, hv g3 g4 hp⟩
theorem td_ls14 (I M : Nat → Int32) (a : Nat) : ∀ (d u : Nat), u + d = 9 → ∀ m : Int32, ∃ m' : Int32,
    ∀ {post : Int32 → Prop} {J6 : Int32 → Int32 → Prop} {K R a3 a4 a5 a6 : Nat → Int32}, td_ag 34 a3 I → td_ag 34 a4 M → J6 m' (nI (a + 1)) → wX_leastSquare_14 post J6 (nI a) K R a3 a4 a5 a6 (d + 1) m (nI u)
  | 0, u, h, m => by
    have e : u = 9 := by omega
    subst e
    refine ⟨m, ?_⟩
    intro post J6 K R a3 a4 a5 a6 g3 g4 hp
    exact br_t (by decide) (nm_r (nI_1 a) hp)
  | d + 1, u, h, m => by
    have hu : u < 9 := by omega
    have h8 : ¬ (8 : Int32) < nI u := nI_nlt (a := 8) (b := u) (by omega) (by omega)
    by_cases c : m ≤ nI a * nI a + nI u * nI u
    · obtain ⟨v, hv⟩ := td_ls14 I M a d (u + 1) (by omega) m
      refine ⟨v, ?_⟩
      intro post J6 K R a3 a4 a5 a6 g3 g4 hp
      exact br_f h8 (nm_e (br_t c (nm_r (nI_1 u) (hv g3 g4 hp))))
    · obtain ⟨w, hw⟩ := td_sm I M a hu
      by_cases k : w = 0
      · obtain ⟨v, hv⟩ := td_ls14 I M a d (u + 1) (by omega) m
        refine ⟨v, ?_⟩
        intro post J6 K R a3 a4 a5 a6 g3 g4 hp
        exact br_f h8 (nm_e (br_f c (hw g3 g4 (br_t k (nm_r (nI_1 u) (hv g3 g4 hp))))))
      · obtain ⟨v, hv⟩ := td_ls14 I M a d (u + 1) (by omega) (nI a * nI a + nI u * nI u)
        refine ⟨v, ?_⟩
        intro post J6 K R a3 a4 a5 a6 g3 g4 hp
        exact br_f h8 (nm_e (br_f c (hw g3 g4 (br_f k (nm_r (nI_1 u) (hv g3 g4 hp))))))
theorem td_ls6 (I M : Nat → Int32) : ∀ (d a : Nat), a + d = 9 → ∀ m : Int32, ∃ v : Int32,
    ∀ {post : Int32 → Prop} {K R a3 a4 a5 a6 : Nat → Int32}, td_ag 34 a3 I → td_ag 34 a4 M → post v → wX_leastSquare_6 post K R a3 a4 a5 a6 (d + 1) m (nI a)
  | 0, a, h, m => by
    have e : a = 9 := by omega
    subst e
    refine ⟨m, ?_⟩
    intro post K R a3 a4 a5 a6 g3 g4 hp
    exact br_t (by decide) hp
  | d + 1, a, h, m => by
    have h8 : ¬ (8 : Int32) < nI a := nI_nlt (a := 8) (b := a) (by omega) (by omega)
    obtain ⟨m', h1⟩ := td_ls14 I M a 9 0 rfl m
    obtain ⟨v, hv⟩ := td_ls6 I M d (a + 1) (by omega) m'
    refine ⟨v, ?_⟩
    intro post K R a3 a4 a5 a6 g3 g4 hp
    exact br_f h8 ⟨10, h1 g3 g4 (hv g3 g4 hp)⟩
theorem td_apart (K R : Nat → Int32) {a b : Nat} (ha : a < 12) (hb : b < 12) : ∃ v : Int32,
    ∀ {post : Int32 → St1 → Prop} {a3 a4 a5 a6 : Nat → Int32}, (∀ b3 b4 b5 b6, post v (K, R, b3, b4, b5, b6)) → wpX_apart post (K, R, a3, a4, a5, a6) (nI a) (nI b) := by
  by_cases h : K a = 0 ∨ K b = 0
  · refine ⟨-2, ?_⟩
    intro post a3 a4 a5 a6 hp
    unfold wpX_apart
    exact td_pr2 ha hb h (br_f (by decide) (hp _ _ _ _))
  · obtain ⟨v, hv⟩ := td_ls6 (td_two K R a b td_lin) (td_two K R a b td_lrm) 9 0 rfl 1000
    have h1 : ¬ K a = 0 := fun z => h (Or.inl z)
    have h2 : ¬ K b = 0 := fun z => h (Or.inr z)
    refine ⟨v, ?_⟩
    intro post a3 a4 a5 a6 hp
    unfold wpX_apart
    refine td_pr0 ha hb h1 h2 (br_t rfl (td_lay (w := 0) ha (by omega) (fun b3 b4 h3 => td_lay (w := 1) hb (by omega) (fun c3 c4 h4 => ?_))))
    have g := td_two_ag h3 h4
    exact ⟨10, hv g.1 g.2 (hp _ _ _ _)⟩
theorem td_nrL (K R : Nat → Int32) {s : Nat} (hs : s < 12) : ∀ (d o : Nat), o + d = 12 → ∀ b l : Int32, ∃ v : Int32,
    ∀ {post : Int32 → St1 → Prop} {a3 a4 a5 a6 : Nat → Int32}, (∀ b3 b4 b5 b6, post v (K, R, b3, b4, b5, b6)) → wX_nearest_31 post (nI s) (d + 1) b l (nI o) K R a3 a4 a5 a6
  | 0, o, h, b, l => by
    have e : o = 12 := by omega
    subst e
    refine ⟨b, ?_⟩
    intro post a3 a4 a5 a6 hp
    exact br_t (by decide) (hp _ _ _ _)
  | d + 1, o, h, b, l => by
    have hg : ¬ (12 : Int32) ≤ nI o := nI_ge (b := 12) (by omega) (by omega)
    have ec : (nI o).toNatClampNeg = o := nI_clamp (by omega)
    by_cases c : o = s
    · obtain ⟨v, hv⟩ := td_nrL K R hs d (o + 1) (by omega) b l
      refine ⟨v, ?_⟩
      intro post a3 a4 a5 a6 hp
      exact br_f hg (br_t (by rw [c]) (nm_r (nI_1 o) (hv hp)))
    · have cc : ¬ nI o = nI s := fun g => c ((nI_eq (by omega) (by omega)).mp g)
      by_cases k : K o = 0
      · obtain ⟨v, hv⟩ := td_nrL K R hs d (o + 1) (by omega) b l
        refine ⟨v, ?_⟩
        intro post a3 a4 a5 a6 hp
        exact br_f hg (br_f cc ⟨pk_in o 12 (by omega), br_t (by rw [ec]; exact k) (nm_r (nI_1 o) (hv hp))⟩)
      · obtain ⟨r, hr⟩ := td_apart K R hs (show o < 12 by omega)
        by_cases z : l ≤ r
        · obtain ⟨v, hv⟩ := td_nrL K R hs d (o + 1) (by omega) b l
          refine ⟨v, ?_⟩
          intro post a3 a4 a5 a6 hp
          exact br_f hg (br_f cc ⟨pk_in o 12 (by omega), br_f (by rw [ec]; exact k) (hr (fun b3 b4 b5 b6 => br_t z (nm_r (nI_1 o) (hv hp))))⟩)
        · obtain ⟨v, hv⟩ := td_nrL K R hs d (o + 1) (by omega) (nI o) r
          refine ⟨v, ?_⟩
          intro post a3 a4 a5 a6 hp
          exact br_f hg (br_f cc ⟨pk_in o 12 (by omega), br_f (by rw [ec]; exact k) (hr (fun b3 b4 b5 b6 => br_f z (nm_r (nI_1 o) (hv hp))))⟩)
theorem td_nearest (K R : Nat → Int32) {s : Nat} (hs : s < 12) : ∃ v : Int32,
    ∀ {post : Int32 → St1 → Prop} {a3 a4 a5 a6 : Nat → Int32}, (∀ b3 b4 b5 b6, post v (K, R, b3, b4, b5, b6)) → wpX_nearest post (K, R, a3, a4, a5, a6) (nI s) := by
  have ec : (nI s).toNatClampNeg = s := nI_clamp (by omega)
  by_cases h : K s = 0
  · refine ⟨-2, ?_⟩
    intro post a3 a4 a5 a6 hp
    unfold wpX_nearest
    exact td_slot hs (br_f (by decide) ⟨pk_in s 12 hs, br_t (by rw [ec]; exact h) (hp _ _ _ _)⟩)
  · obtain ⟨v, hv⟩ := td_nrL K R hs 12 0 rfl (-7) 1000
    refine ⟨v, ?_⟩
    intro post a3 a4 a5 a6 hp
    unfold wpX_nearest
    exact td_slot hs (br_f (by decide) ⟨pk_in s 12 hs, br_f (by rw [ec]; exact h) ⟨13, hv hp⟩⟩)
/-! ===== part, look ===== -/
def td_ptv (K R : Nat → Int32) (s i j : Nat) : Int32 :=
  if K s = 0 then -2 else if ((td_lin (K s) (td_get R s) j >>> (nI i &&& 31)) &&& 1) = 1 then 0 else if ((td_lrm (K s) (td_get R s) j >>> (nI i &&& 31)) &&& 1) = 1 then 1 else 2
theorem td_part {post : Int32 → St1 → Prop} {K R a3 a4 a5 a6 : Nat → Int32} {s i j : Nat} (hs : s < 12) (hi : i < 17) (hj : j < 17) (hp : ∀ b3 b4 b5 b6, post (td_ptv K R s i j) (K, R, b3, b4, b5, b6)) : wpX_part post (K, R, a3, a4, a5, a6) (nI s) (nI i) (nI j) := by
  have ec : (nI s).toNatClampNeg = s := nI_clamp (by omega)
  have ej : (nI j).toNatClampNeg = j := nI_clamp (by omega)
  unfold wpX_part
  refine td_slot hs (br_f (by decide) ⟨pk_in s 12 hs, ?_⟩)
  rw [ec]
  unfold td_ptv at hp
  refine br_c (fun z => ?_) (fun z => ?_)
  · rw [if_pos z] at hp
    exact hp _ _ _ _
  · rw [if_neg z] at hp
    refine pk_lt i 0 (fun y => absurd y (by omega)) (fun _ => pk_le 17 i (fun y => absurd y (by omega)) (fun _ => pk_lt j 0 (fun y => absurd y (by omega)) (fun _ => pk_lt j 17 (fun _ => td_lay (w := 0) hs (by omega) (fun b3 b4 g => ?_)) (fun y => absurd y (by omega)))))
    have g3 := (g.1 j hj).1
    have g4 := (g.1 j hj).2
    rw [show 17 * 0 + j = j by omega] at g3 g4
    refine ⟨pk_in j 34 (by omega), ?_⟩
    rw [ej, g3, g4]
    refine br_c (fun y => ?_) (fun y => ⟨pk_in j 34 (by omega), br_c (fun y' => ?_) (fun y' => ?_)⟩)
    · rw [if_pos y] at hp; exact hp _ _ _ _
    · rw [if_neg y, if_pos y'] at hp; exact hp _ _ _ _
    · rw [if_neg y, if_neg y'] at hp; exact hp _ _ _ _
theorem td_look65 (K R : Nat → Int32) {s : Nat} (hs : s < 6) : ∀ (d c : Nat), c + d = 81 → ∀ h : Int64, ∃ h' : Int64,
    ∀ {post : Int64 → St1 → Prop} {J10 : Int64 → Int32 → (Nat → Int32) → (Nat → Int32) → (Nat → Int32) → (Nat → Int32) → (Nat → Int32) → (Nat → Int32) → Prop} {a3 a4 a5 a6 : Nat → Int32}, (∀ b3 b4 b5 b6, J10 h' (nI (s + 1)) K R b3 b4 b5 b6) → wL_look_65 post J10 (nI s) (d + 1) h (nI c) K R a3 a4 a5 a6
  | 0, c, e, h => by
    have e : c = 81 := by omega
    subst e
    refine ⟨h, ?_⟩
    intro post J10 a3 a4 a5 a6 hp
    exact br_t (by decide) (nm_r (nI_1 s) (hp _ _ _ _))
  | d + 1, c, e, h => by
    have e1 : nI c / 9 = nI (c / 9) := pk_div (d := 9) (by omega) (by omega) (by omega)
    have e2 : nI c - nI c / 9 * 9 = nI (c % 9) := pk_rem (d := 9) (by omega) (by omega) (by omega)
    obtain ⟨h', hv⟩ := td_look65 K R hs d (c + 1) (by omega) ((31 * ((31 * h) + (td_ptv K R s (2 * (c / 9)) (2 * (c % 9))).toInt64)) + (td_ptv K R s (c / 9 + 4) (c % 9 + 4)).toInt64)
    refine ⟨h', ?_⟩
    intro post J10 a3 a4 a5 a6 hp
    refine br_f (nI_ge (b := 81) (by omega) (by decide)) ⟨by decide, by decide, ?_⟩
    rw [e2, e1, td_2, td_2]
    refine td_part (by omega) (by omega) (by omega) (fun b3 b4 b5 b6 => ⟨by decide, by decide, ?_⟩)
    rw [show nI (c / 9) + 4 = nI (c / 9 + 4) from nI_add (c / 9) 4, show nI (c % 9) + 4 = nI (c % 9 + 4) from nI_add (c % 9) 4]
    exact td_part (by omega) (by omega) (by omega) (fun b3 b4 b5 b6 => nm_e (nm_r (nI_1 c) (hv hp)))
theorem td_look10 (K R : Nat → Int32) : ∀ (d s : Nat), s + d = 6 → ∀ h : Int64, ∃ v : Int64,
    ∀ {post : Int64 → St1 → Prop} {a3 a4 a5 a6 : Nat → Int32}, (∀ b3 b4 b5 b6, post v (K, R, b3, b4, b5, b6)) → wL_look_10 post (d + 1) h (nI s) K R a3 a4 a5 a6
  | 0, s, e, h => by
    have e : s = 6 := by omega
    subst e
    refine ⟨h, ?_⟩
    intro post a3 a4 a5 a6 hp
    exact br_t (by decide) (hp _ _ _ _)
  | d + 1, s, e, h => by
    obtain ⟨u1, h1⟩ := td_pieces K R (show s < 12 by omega)
    obtain ⟨u2, h2⟩ := td_nearest K R (show s < 12 by omega)
    obtain ⟨h', h3⟩ := td_look65 K R (show s < 6 by omega) 81 0 rfl ((31 * ((31 * ((31 * ((31 * h) + (K s).toInt64)) + (nI (td_ct R s)).toInt64)) + u1.toInt64)) + u2.toInt64)
    obtain ⟨v, h4⟩ := td_look10 K R d (s + 1) (by omega) h'
    refine ⟨v, ?_⟩
    intro post a3 a4 a5 a6 hp
    exact br_f (nI_ge (b := 6) (by omega) (by decide)) (td_kind (by omega) (td_size (by omega) (h1 (fun b3 b4 b5 b6 => h2 (fun c3 c4 c5 c6 => nm_e ⟨82, h3 (fun d3 d4 d5 d6 => h4 hp)⟩)))))
theorem td_look (K R : Nat → Int32) : ∃ v : Int64,
    ∀ {post : Int64 → St1 → Prop} {a3 a4 a5 a6 : Nat → Int32}, (∀ b3 b4 b5 b6, post v (K, R, b3, b4, b5, b6)) → wpL_look post (K, R, a3, a4, a5, a6) := by
  obtain ⟨u, hu⟩ := td_pairs6 K R
  obtain ⟨v, hv⟩ := td_look10 K R 6 0 rfl u.toInt64
  refine ⟨v, ?_⟩
  intro post a3 a4 a5 a6 hp
  unfold wpL_look
  exact hu (fun b3 b4 b5 b6 => ⟨7, hv hp⟩)
end
section
/-! ===== a slot's words replaced ===== -/
def td_set (R : Nat → Int32) (s : Nat) (g : Nat → Int32) : Nat → Int32 := fun i => if 17 * s ≤ i ∧ i < 17 * s + 17 then g (i - 17 * s) else R i
theorem td_set_in {R g : Nat → Int32} {s j : Nat} (hj : j < 17) : td_set R s g (17 * s + j) = g j := by
  unfold td_set
  rw [if_pos (by omega), show 17 * s + j - 17 * s = j by omega]
theorem td_set_out {R g : Nat → Int32} {s i : Nat} (h : i < 17 * s ∨ 17 * s + 17 ≤ i) : td_set R s g i = R i := by
  unfold td_set
  rw [if_neg (by omega)]
theorem td_set_ne {R g : Nat → Int32} {s t j : Nat} (h : t ≠ s) (hj : j < 17) : td_set R s g (17 * t + j) = R (17 * t + j) := td_set_out (by omega)
theorem td_set_eq {R R' g : Nat → Int32} {s : Nat} (h : ∀ j, j < 17 → R' (17 * s + j) = g j) (h' : ∀ i, (i < 17 * s ∨ 17 * s + 17 ≤ i) → R' i = R i) : R' = td_set R s g := by
  funext i
  by_cases c : i < 17 * s ∨ 17 * s + 17 ≤ i
  · rw [td_set_out c, h' i c]
  · obtain ⟨j, rfl⟩ : ∃ j, i = 17 * s + j := ⟨i - 17 * s, by omega⟩
    rw [td_set_in (by omega), h j (by omega)]
theorem td_set_get (R : Nat → Int32) (s : Nat) : R = td_set R s (td_get R s) := td_set_eq (fun _ _ => rfl) (fun _ _ => rfl)
theorem td_set_upd {R g : Nat → Int32} {s j : Nat} (hj : j < 17) (x : Int32) : upd (td_set R s g) (17 * s + j) x = td_set R s (upd g j x) := by
  apply td_set_eq
  · intro i hi
    by_cases e : i = j
    · rw [e, pk_us, pk_us]
    · rw [pk_un (show 17 * s + i ≠ 17 * s + j by omega), pk_un e, td_set_in hi]
  · intro i hi
    rw [pk_un (show i ≠ 17 * s + j by omega), td_set_out hi]
theorem td_upd_set {R : Nat → Int32} {s j : Nat} (hj : j < 17) (x : Int32) : upd R (17 * s + j) x = td_set R s (upd (td_get R s) j x) := by
  have h := td_set_upd (R := R) (g := td_get R s) (s := s) hj x
  rw [← td_set_get] at h
  exact h
theorem td_ct_set {R g : Nat → Int32} {s : Nat} : td_ct (td_set R s g) s = td_cn g 17 := td_cn_ag (fun _ hj => td_set_in hj)
theorem td_ct_ne {R g : Nat → Int32} {s t : Nat} (h : t ≠ s) : td_ct (td_set R s g) t = td_ct R t := td_cn_ag (fun _ hj => td_set_ne h hj)
/-! ===== combine ===== -/
def td_cf (h a b : Int32) : Int32 := if h = 0 then a ||| b else if h = 1 then a &&& b else if h = 2 then a &&& (b ^^^ (-1)) else a ^^^ b
def td_cg (h : Int32) (R : Nat → Int32) (s t : Nat) : Nat → Int32 := fun j => td_cf h (R (17 * s + j)) (R (17 * t + j))
section
variable {post : Int32 → St1 → Prop} {K R a3 a4 a5 a6 : Nat → Int32} {s t : Nat}
theorem td_comb {h : Int32} (hs : s < 12) (ht : t < 12) (h0 : ¬ h < 0) (h3 : h ≤ 3) (k1 : ¬ K s = 0) (k2 : K s = K t)
    (hp : post (nI (td_cn (td_cg h R s t) 17)) (if td_cn (td_cg h R s t) 17 = 0 then upd K s 0 else K, td_set R s (td_cg h R s t), a3, a4, a5, a6)) : wpX_combine post (K, R, a3, a4, a5, a6) (nI s) (nI t) h := by
  have k3 : ¬ K t = 0 := fun z => k1 (k2.trans z)
  have es : (nI s).toNatClampNeg = s := nI_clamp (by omega)
  have et : (nI t).toNatClampNeg = t := nI_clamp (by omega)
  unfold wpX_combine
  refine td_pr0 hs ht k1 k3 (br_t rfl ⟨pk_in s 12 hs, pk_in t 12 ht, br_t (by rw [es, et]; exact k2) (br_f h0 (br_t h3 ?_))⟩)
  refine pk_loop (fun n i S => wX_combine_49 post (nI s) (nI t) h n (nI i) K S a3 a4 a5 a6) (fun i S => (∀ j, j < i → S (17 * s + j) = td_cg h R s t j) ∧ (∀ x, (x < 17 * s ∨ 17 * s + i ≤ x) → S x = R x)) 17 0 R (by omega) ⟨fun j hj => absurd hj (by omega), fun x _ => rfl⟩ ?_ ?_
  · intro n S hS
    have e : S = td_set R s (td_cg h R s t) := td_set_eq hS.1 hS.2
    subst e
    refine br_t (by decide) (td_settle hs ?_)
    rw [td_ct_set]
    exact hp
  · intro n i S hi hS hw
    have i1 : vp_in (17 * nI s + nI i) 204 := by rw [td_ix]; exact vp_in_nI (by omega) (by decide)
    have i2 : vp_in (17 * nI t + nI i) 204 := by rw [td_ix]; exact vp_in_nI (by omega) (by decide)
    have c1 : (17 * nI s + nI i).toNatClampNeg = 17 * s + i := by rw [td_ix]; exact nI_clamp (by omega)
    have c2 : (17 * nI t + nI i).toNatClampNeg = 17 * t + i := by rw [td_ix]; exact nI_clamp (by omega)
    have r1 : S (17 * s + i) = R (17 * s + i) := hS.2 _ (by omega)
    have r2 : S (17 * t + i) = R (17 * t + i) := hS.2 _ (by omega)
    have fin : ∀ x : Int32, x = td_cg h R s t i → ∀ (x5 : Int32), x5 = nI i + 1 → wX_combine_49 post (nI s) (nI t) h n x5 K (upd S (17 * s + i) x) a3 a4 a5 a6 := by
      intro x hx x5 e5
      rw [e5, nI_1]
      refine hw _ ⟨fun j hj => ?_, fun y hy => ?_⟩
      · by_cases e : j = i
        · rw [e, pk_us, hx]
        · rw [pk_un (show 17 * s + j ≠ 17 * s + i by omega)]
          exact hS.1 j (by omega)
      · rw [pk_un (show y ≠ 17 * s + i by omega)]
        exact hS.2 y (by omega)
    refine br_f (nI_ge (b := 17) hi (by decide)) ⟨i1, nm_r (by rw [c1, r1]) ⟨i2, nm_r (by rw [c2, r2]) ?_⟩⟩
    refine br_c (fun z => ⟨i1, nm_r (by rw [c1]) (fin _ ?_)⟩) (fun z => br_c (fun z1 => ⟨i1, nm_r (by rw [c1]) (fin _ ?_)⟩) (fun z1 => br_c (fun z2 => ⟨i1, nm_r (by rw [c1]) (fin _ ?_)⟩) (fun z2 => ⟨i1, nm_r (by rw [c1]) (fin _ ?_)⟩)))
    · unfold td_cg td_cf; rw [if_pos z]
    · unfold td_cg td_cf; rw [if_neg z, if_pos z1]
    · unfold td_cg td_cf; rw [if_neg z, if_neg z1, if_pos z2]
    · unfold td_cg td_cf; rw [if_neg z, if_neg z1, if_neg z2]
theorem td_comb2 {h : Int32} (hs : s < 12) (ht : t < 12) (k : K s = 0 ∨ K t = 0) (hp : post (-2) (K, R, a3, a4, a5, a6)) : wpX_combine post (K, R, a3, a4, a5, a6) (nI s) (nI t) h := by
  unfold wpX_combine
  exact td_pr2 hs ht k (br_f (by decide) hp)
theorem td_comb3 {h : Int32} (hs : s < 12) (ht : t < 12) (k1 : ¬ K s = 0) (k3 : ¬ K t = 0) (k : ¬ K s = K t) (hp : post (-3) (K, R, a3, a4, a5, a6)) : wpX_combine post (K, R, a3, a4, a5, a6) (nI s) (nI t) h := by
  have es : (nI s).toNatClampNeg = s := nI_clamp (by omega)
  have et : (nI t).toNatClampNeg = t := nI_clamp (by omega)
  unfold wpX_combine
  exact td_pr0 hs ht k1 k3 (br_t rfl ⟨pk_in s 12 hs, pk_in t 12 ht, br_f (by rw [es, et]; exact k) hp⟩)
theorem td_comb1 {h : Int32} (hs : s < 12) (hp : post (-1) (K, R, a3, a4, a5, a6)) : wpX_combine post (K, R, a3, a4, a5, a6) (nI s) 12 h := by
  unfold wpX_combine
  exact td_pr1 hs (br_f (by decide) hp)
theorem td_comb6 (hs : s < 12) (k1 : ¬ K s = 0) (hp : post (-6) (K, R, a3, a4, a5, a6)) : wpX_combine post (K, R, a3, a4, a5, a6) (nI s) (nI s) 4 := by
  unfold wpX_combine
  exact td_pr0 hs hs k1 k1 (br_t rfl ⟨pk_in s 12 hs, pk_in s 12 hs, br_t rfl (br_f (by decide) (br_f (by decide) hp))⟩)
/-! ===== clear, refused calls ===== -/
theorem td_clear (hs : s < 12) (hp : post (K s) (upd K s 0, td_set R s (fun _ => 0), a3, a4, a5, a6)) : wpX_clear post (K, R, a3, a4, a5, a6) (nI s) := by
  have es : (nI s).toNatClampNeg = s := nI_clamp (by omega)
  unfold wpX_clear
  refine td_slot hs (br_f (by decide) ⟨pk_in s 12 hs, nm_r (by rw [es]) ?_⟩)
  unfold wpX_empty
  refine ⟨pk_in s 12 hs, nm_r (by rw [es]) ?_⟩
  refine pk_loop (fun n i S => wX_empty_9 _ (nI s) n (nI i) (upd K s 0) S a3 a4 a5 a6) (fun i S => (∀ j, j < i → S (17 * s + j) = 0) ∧ (∀ x, (x < 17 * s ∨ 17 * s + i ≤ x) → S x = R x)) 17 0 R (by omega) ⟨fun j hj => absurd hj (by omega), fun x _ => rfl⟩ ?_ ?_
  · intro n S hS
    have e : S = td_set R s (fun _ => 0) := td_set_eq hS.1 hS.2
    subst e
    exact br_t (by decide) hp
  · intro n i S hi hS hw
    have i1 : vp_in (17 * nI s + nI i) 204 := by rw [td_ix]; exact vp_in_nI (by omega) (by decide)
    have c1 : (17 * nI s + nI i).toNatClampNeg = 17 * s + i := by rw [td_ix]; exact nI_clamp (by omega)
    refine br_f (nI_ge (b := 17) hi (by decide)) ⟨i1, nm_r (by rw [c1]) (nm_r (nI_1 i) (hw _ ⟨fun j hj => ?_, fun y hy => ?_⟩))⟩
    · by_cases e : j = i
      · rw [e, pk_us]
      · rw [pk_un (show 17 * s + j ≠ 17 * s + i by omega)]
        exact hS.1 j (by omega)
    · rw [pk_un (show y ≠ 17 * s + i by omega)]
      exact hS.2 y (by omega)
theorem td_grow1 (hp : post (-1) (K, R, a3, a4, a5, a6)) : wpX_grow post (K, R, a3, a4, a5, a6) (-1) := by
  unfold wpX_grow
  exact td_arm1 (br_f (by decide) hp)
theorem td_grow2 (hs : s < 12) (k : K s = 0) (hp : post (-2) (K, R, a3, a4, a5, a6)) : wpX_grow post (K, R, a3, a4, a5, a6) (nI s) := by
  unfold wpX_grow
  refine td_ar hs ?_
  rw [if_pos k]
  exact br_f (by decide) hp
theorem td_outl (hp : post (-1) (K, R, a3, a4, a5, a6)) : wpX_outline post (K, R, a3, a4, a5, a6) 0 12 := by
  unfold wpX_outline
  exact td_slot12 (br_t rfl hp)
theorem td_fill3 (hs : s < 12) (k : ¬ K s = 0) (k' : ¬ K s = 3) (hp : post (-3) (K, R, a3, a4, a5, a6)) : wpX_fill post (K, R, a3, a4, a5, a6) (nI s) := by
  unfold wpX_fill
  refine td_ar hs ?_
  rw [if_neg k, if_neg k']
  exact br_f (by decide) hp
theorem td_holes3 (hs : s < 12) (k : ¬ K s = 0) (k' : ¬ K s = 3) (hp : post (-3) (K, R, a3, a4, a5, a6)) : wpX_holes post (K, R, a3, a4, a5, a6) (nI s) := by
  unfold wpX_holes
  refine td_ar hs ?_
  rw [if_neg k, if_neg k']
  exact br_f (by decide) hp
theorem td_rim3 (hs : s < 12) (k : ¬ K s = 0) (k' : ¬ K s = 3) (hp : post (-3) (K, R, a3, a4, a5, a6)) : wpX_rim post (K, R, a3, a4, a5, a6) (nI s) := by
  unfold wpX_rim
  refine td_ar hs ?_
  rw [if_neg k, if_neg k']
  exact br_f (by decide) hp
theorem td_cut1 {p q : Int32} (hp : post (-1) (K, R, a3, a4, a5, a6)) : wpX_cut post (K, R, a3, a4, a5, a6) 12 p q := by
  unfold wpX_cut
  exact td_ar12 (br_f (by decide) hp)
theorem td_cut2 {p q : Int32} (hs : s < 12) (k : K s = 0) (hp : post (-2) (K, R, a3, a4, a5, a6)) : wpX_cut post (K, R, a3, a4, a5, a6) (nI s) p q := by
  unfold wpX_cut
  refine td_ar hs ?_
  rw [if_pos k]
  exact br_f (by decide) hp
/-! ===== point ===== -/
theorem td_point1 {p : Int32} (hp : post (-1) (K, R, a3, a4, a5, a6)) : wpX_point post (K, R, a3, a4, a5, a6) 12 p := by
  unfold wpX_point
  exact td_slot12 (br_t rfl hp)
theorem td_point3 {p : Int32} (hs : s < 12) (k : ¬ K s = 0) (k' : ¬ K s = 1) (hp : post (-3) (K, R, a3, a4, a5, a6)) : wpX_point post (K, R, a3, a4, a5, a6) (nI s) p := by
  unfold wpX_point
  exact td_slot hs (br_f (by decide) (td_takes0 hs k k' (br_t rfl hp)))
theorem td_point4 (hs : s < 12) (k : K s = 0) (hp : post (-4) (K, R, a3, a4, a5, a6)) : wpX_point post (K, R, a3, a4, a5, a6) (nI s) 81 := by
  unfold wpX_point
  exact td_slot hs (br_f (by decide) (td_takes1 hs (Or.inl k) (br_f (by decide) (td_vert81 (br_t rfl hp)))))
def td_pm (v : Nat) : Int32 := (1 : Int32) <<< (nI (2 * (v / 9)) &&& 31)
theorem td_point {v : Nat} (hs : s < 12) (hv : v < 81) (k : K s = 0 ∨ K s = 1)
    (hp : post (nI (td_cn (upd (td_get R s) (2 * (v % 9)) (td_get R s (2 * (v % 9)) ||| td_pm v)) 17)) (upd K s 1, td_set R s (upd (td_get R s) (2 * (v % 9)) (td_get R s (2 * (v % 9)) ||| td_pm v)), a3, a4, a5, a6)) : wpX_point post (K, R, a3, a4, a5, a6) (nI s) (nI v) := by
  have es : (nI s).toNatClampNeg = s := nI_clamp (by omega)
  have e1 : nI v / 9 = nI (v / 9) := pk_div (d := 9) (by omega) (by omega) (by omega)
  have e2 : nI v - nI v / 9 * 9 = nI (v % 9) := pk_rem (d := 9) (by omega) (by omega) (by omega)
  have ix : 17 * nI s + 2 * (nI v - nI v / 9 * 9) = nI (17 * s + 2 * (v % 9)) := by rw [e2, td_2, td_ix]
  have i1 : vp_in (17 * nI s + 2 * (nI v - nI v / 9 * 9)) 204 := by rw [ix]; exact vp_in_nI (by omega) (by decide)
  have c1 : (17 * nI s + 2 * (nI v - nI v / 9 * 9)).toNatClampNeg = 17 * s + 2 * (v % 9) := by rw [ix]; exact nI_clamp (by omega)
  have e3 : upd R (17 * nI s + 2 * (nI v - nI v / 9 * 9)).toNatClampNeg ((R (17 * nI s + 2 * (nI v - nI v / 9 * 9)).toNatClampNeg) ||| ((1 : Int32) <<< ((2 * (nI v / 9)) &&& 31))) = td_set R s (upd (td_get R s) (2 * (v % 9)) (td_get R s (2 * (v % 9)) ||| td_pm v)) := by
    rw [c1, e1, td_2, td_upd_set (by omega)]
    rfl
  unfold wpX_point
  refine td_slot hs (br_f (by decide) (td_takes1 hs k (br_f (by decide) (td_vert hv (br_f (by decide) ⟨pk_in s 12 hs, nm_r (by rw [es]) ⟨by decide, i1, by decide, i1, nm_r e3 (td_count hs ?_)⟩⟩)))))
  rw [td_ct_set]
  exact hp
end
end
section
/-! ===== lines, rectangles, cuts ===== -/
theorem td_lesser {post : Int32 → Prop} {p q : Nat} (hp' : p < 2 ^ 31) (hq : q < 2 ^ 31) (hp : post (nI (min p q))) : wpX_lesser post () (nI p) (nI q) :=
  pk_le q p (fun z => by rw [show min p q = q by omega] at hp; exact hp) (fun z => by rw [show min p q = p by omega] at hp; exact hp)
theorem td_greater {post : Int32 → Prop} {p q : Nat} (hp' : p < 2 ^ 31) (hq : q < 2 ^ 31) (hp : post (nI (max p q))) : wpX_greater post () (nI p) (nI q) :=
  pk_le p q (fun z => by rw [show max p q = q by omega] at hp; exact hp) (fun z => by rw [show max p q = p by omega] at hp; exact hp)
def td_sw (l r : Nat) : Int32 := (((1 : Int32) <<< ((nI (2 * r) + 1) &&& 31)) - ((1 : Int32) <<< (nI (2 * l) &&& 31))) &&& 43690
theorem td_swk : ∀ r, r < 9 → ∀ l, l < r → td_tn (td_sw l r) < 2 ^ 17 ∧ ¬ td_sw l r = 0 := by decide +kernel
theorem td_pmk : ∀ x, x < 9 → td_tn ((1 : Int32) <<< (nI (2 * x) &&& 31)) < 2 ^ 17 ∧ ¬ ((1 : Int32) <<< (nI (2 * x) &&& 31)) = 0 := by decide +kernel
theorem td_span {post : Int32 → Prop} {l r : Nat} (h : l ≤ r) (hr : r < 9) (hp : post (((1 : Int32) <<< ((nI (2 * r) + 1) &&& 31)) - ((1 : Int32) <<< (nI (2 * l) &&& 31)))) : wpX_span post () (nI (2 * l)) (nI (2 * r)) :=
  br_t (nI_le (by omega) (by omega)) hp
theorem td_flat {post : Int32 → Prop} {a b : Nat} (ha : a < 81) (hb : b < 81) (h1 : (a / 9 = b / 9 ∨ a % 9 = b % 9) → post 1) (h0 : ¬ (a / 9 = b / 9 ∨ a % 9 = b % 9) → post 0) : wpX_flat post () (nI a) (nI b) := by
  have e1 : nI a / 9 = nI (a / 9) := pk_div (d := 9) (by omega) (by omega) (by omega)
  have e2 : nI a - nI a / 9 * 9 = nI (a % 9) := pk_rem (d := 9) (by omega) (by omega) (by omega)
  have f1 : nI b / 9 = nI (b / 9) := pk_div (d := 9) (by omega) (by omega) (by omega)
  have f2 : nI b - nI b / 9 * 9 = nI (b % 9) := pk_rem (d := 9) (by omega) (by omega) (by omega)
  unfold wpX_flat
  rw [e2, f2, e1, f1]
  exact ⟨by decide, by decide, pk_eq (a / 9) (b / 9) (fun z => h1 (Or.inl z)) (fun z => ⟨by decide, by decide, pk_eq (a % 9) (b % 9) (fun z' => h1 (Or.inr z')) (fun z' => h0 (fun y => y.elim z z'))⟩)⟩
theorem td_columns {post : Int32 → Prop} {a b : Nat} (ha : a < 81) (hb : b < 81) (hp : post (td_sw (min (a / 9) (b / 9)) (max (a / 9) (b / 9)))) : wpX_columns post () (nI a) (nI b) := by
  have e1 : nI a / 9 = nI (a / 9) := pk_div (d := 9) (by omega) (by omega) (by omega)
  have f1 : nI b / 9 = nI (b / 9) := pk_div (d := 9) (by omega) (by omega) (by omega)
  unfold wpX_columns
  rw [e1, f1]
  refine ⟨by decide, by decide, td_lesser (by omega) (by omega) ⟨by decide, by decide, td_greater (by omega) (by omega) ?_⟩⟩
  rw [td_2, td_2]
  exact td_span (by omega) (by omega) hp
/-- words that have been added to -/
def td_Ia (R : Nat → Int32) (s i0 i : Nat) (S : Nat → Int32) : Prop :=
  ∃ g, S = td_set R s g ∧ (∀ j, j < 17 → td_W (R (17 * s + j)) → td_W (g j)) ∧ (i0 < i → ∃ j, j < 17 ∧ ¬ g j = 0)
theorem td_Ia0 (R : Nat → Int32) (s i0 : Nat) : td_Ia R s i0 i0 R := ⟨td_get R s, td_set_get R s, fun j _ h => h, fun h => absurd h (by omega)⟩
theorem td_Ia1 {R S : Nat → Int32} {s i0 i j : Nat} {m : Int32} (i' : Nat) (h : td_Ia R s i0 i S) (hj : j < 17) (hm : td_W m) (h0 : ¬ m = 0) : td_Ia R s i0 i' (upd S (17 * s + j) (S (17 * s + j) ||| m)) := by
  obtain ⟨g, rfl, h1, _⟩ := h
  refine ⟨_, td_set_upd hj _, fun x hx hw => ?_, fun _ => ⟨j, hj, ?_⟩⟩
  · by_cases e : x = j
    · rw [e, pk_us, td_set_in hj]
      rw [e] at hw hx
      exact td_Wor (h1 j hx hw) hm
    · rw [pk_un e]; exact h1 x hx hw
  · rw [pk_us]; exact td_a6 h0
section
variable {post : Int32 → St1 → Prop} {K R a3 a4 a5 a6 : Nat → Int32} {s a b : Nat}
theorem td_lineV {x i0 e : Nat} (hs : s < 12) (hx : x < 9) (hi : i0 < e) (he : e < 9)
    (hp : ∀ g, (∀ j, j < 17 → td_W (R (17 * s + j)) → td_W (g j)) → (∃ j, j < 17 ∧ ¬ g j = 0) → post (nI (td_cn g 17)) (K, td_set R s g, a3, a4, a5, a6)) :
    ∃ n, wX_line_182 post (nI s) (nI x) (nI (2 * e)) n (nI (2 * i0 + 1)) K R a3 a4 a5 a6 := by
  refine pk_loop (fun n i S => wX_line_182 post (nI s) (nI x) (nI (2 * e)) n (nI (2 * i + 1)) K S a3 a4 a5 a6) (fun i S => td_Ia R s i0 i S) e i0 R (by omega) (td_Ia0 R s i0) ?_ ?_
  · intro n S h
    obtain ⟨g, rfl, h1, h2⟩ := h
    refine br_t (nI_le (by omega) (by omega)) ?_
    unfold wX_line_216
    refine td_count hs ?_
    rw [td_ct_set]
    exact hp g h1 (h2 hi)
  · intro n i S hi' h hw
    have i1 : vp_in (17 * nI s + nI (2 * i + 1)) 204 := by rw [td_ix]; exact vp_in_nI (by omega) (by decide)
    have c1 : (17 * nI s + nI (2 * i + 1)).toNatClampNeg = 17 * s + (2 * i + 1) := by rw [td_ix]; exact nI_clamp (by omega)
    have k := td_pmk x hx
    refine br_f (nI_ge (by omega) (by omega)) ⟨i1, i1, nm_r (by rw [c1, td_2]) (nm_r (show nI (2 * i + 1) + 2 = nI (2 * (i + 1) + 1) from nI_add (2 * i + 1) 2) (hw _ (td_Ia1 (i + 1) h (by omega) k.1 k.2)))⟩
theorem td_line1 {p q : Int32} (hp : post (-1) (K, R, a3, a4, a5, a6)) : wpX_line post (K, R, a3, a4, a5, a6) (-1) p q := by
  unfold wpX_line
  exact td_slotm (br_t rfl hp)
theorem td_line3 {p q : Int32} (hs : s < 12) (k : ¬ K s = 0) (k' : ¬ K s = 2) (hp : post (-3) (K, R, a3, a4, a5, a6)) : wpX_line post (K, R, a3, a4, a5, a6) (nI s) p q := by
  unfold wpX_line
  exact td_slot hs (br_f (by decide) (td_takes0 hs k k' (br_t rfl hp)))
theorem td_line86 {x y u v : Nat} {z0 z1 : Int32} (hs : s < 12) (hx : x < 9) (hy : y < 9) (hu : u < 9) (hv : v < 9) (e0 : z0 = if y = v then 1 else 0) (e1 : z1 = if x = u then 1 else 0)
    (h5 : (x = u ↔ y = v) → post (-5) (K, R, a3, a4, a5, a6))
    (hp : ¬ (x = u ↔ y = v) → ∀ g, (∀ j, j < 17 → td_W (R (17 * s + j)) → td_W (g j)) → (∃ j, j < 17 ∧ ¬ g j = 0) → post (nI (td_cn g 17)) (upd K s 2, td_set R s g, a3, a4, a5, a6)) :
    wX_line_86 post (nI s) (nI x) (nI y) (nI u) (nI v) z0 z1 K R a3 a4 a5 a6 := by
  have es : (nI s).toNatClampNeg = s := nI_clamp (by omega)
  unfold wX_line_86
  by_cases c1 : y = v
  · by_cases c2 : x = u
    · rw [if_pos c1] at e0
      rw [if_pos c2] at e1
      subst e0
      subst e1
      exact br_t rfl (h5 ⟨fun _ => c1, fun _ => c2⟩)
    · rw [if_pos c1] at e0
      rw [if_neg c2] at e1
      subst e0
      subst e1
      have i1 : vp_in (17 * nI s + 2 * nI y) 204 := by rw [td_2, td_ix]; exact vp_in_nI (by omega) (by decide)
      have cl : (17 * nI s + 2 * nI y).toNatClampNeg = 17 * s + 2 * y := by rw [td_2, td_ix]; exact nI_clamp (by omega)
      refine br_f (by decide) ⟨pk_in s 12 hs, nm_r (by rw [es]) (br_t (by rw [c1]) (td_lesser (by omega) (by omega) (td_greater (by omega) (by omega) ⟨i1, ?_⟩)))⟩
      rw [td_2 (min x u), td_2 (max x u)]
      refine td_span (by omega) (by omega) ⟨i1, nm_r (by rw [cl]) ?_⟩
      have k := td_swk (max x u) (by omega) (min x u) (by omega)
      obtain ⟨g, hg, h1, h2⟩ := td_Ia1 (R := R) (S := R) (s := s) (i0 := 0) (i := 0) (j := 2 * y) 1 (td_Ia0 R s 0) (by omega) k.1 k.2
      unfold wX_line_216
      refine td_count hs ?_
      unfold td_sw at hg
      rw [hg, td_ct_set]
      exact hp (fun z => c2 (z.mpr c1)) g h1 (h2 (by omega))
  · by_cases c2 : x = u
    · rw [if_neg c1] at e0
      rw [if_pos c2] at e1
      subst e0
      subst e1
      refine br_f (by decide) ⟨pk_in s 12 hs, nm_r (by rw [es]) (br_f (fun z => c1 ((nI_eq (by omega) (by omega)).mp z)) (td_greater (by omega) (by omega) (nm_r (td_2 _) (td_lesser (by omega) (by omega) (nm_r (by rw [td_2, nI_1]) ?_)))))⟩
      exact td_lineV hs hx (by omega) (by omega) (hp (fun z => c1 (z.mp c2)))
    · rw [if_neg c1] at e0
      rw [if_neg c2] at e1
      subst e0
      subst e1
      exact br_t rfl (h5 ⟨fun z => absurd z c2, fun z => absurd z c1⟩)
theorem td_line (hs : s < 12) (ha : a < 81) (hb : b < 81) (k : K s = 0 ∨ K s = 2)
    (h5 : (a / 9 = b / 9 ↔ a % 9 = b % 9) → post (-5) (K, R, a3, a4, a5, a6))
    (hp : ¬ (a / 9 = b / 9 ↔ a % 9 = b % 9) → ∀ g, (∀ j, j < 17 → td_W (R (17 * s + j)) → td_W (g j)) → (∃ j, j < 17 ∧ ¬ g j = 0) → post (nI (td_cn g 17)) (upd K s 2, td_set R s g, a3, a4, a5, a6)) :
    wpX_line post (K, R, a3, a4, a5, a6) (nI s) (nI a) (nI b) := by
  have e1 : nI a / 9 = nI (a / 9) := pk_div (d := 9) (by omega) (by omega) (by omega)
  have e2 : nI a - nI a / 9 * 9 = nI (a % 9) := pk_rem (d := 9) (by omega) (by omega) (by omega)
  have f1 : nI b / 9 = nI (b / 9) := pk_div (d := 9) (by omega) (by omega) (by omega)
  have f2 : nI b - nI b / 9 * 9 = nI (b % 9) := pk_rem (d := 9) (by omega) (by omega) (by omega)
  unfold wpX_line
  refine td_slot hs (br_f (by decide) (td_takes1 hs k (br_f (by decide) (td_vert ha (br_f (by decide) (td_vert hb (br_f (by decide) ⟨by decide, nm_r e1 ⟨by decide, nm_r e2 ⟨by decide, nm_r f1 ⟨by decide, nm_r f2 ?_⟩⟩⟩⟩)))))))
  refine pk_eq (a / 9) (b / 9) (fun z => ?_) (fun z => ?_)
  · unfold wX_line_74
    exact pk_eq (a % 9) (b % 9) (fun z' => td_line86 hs (by omega) (by omega) (by omega) (by omega) (by rw [if_pos z']) (by rw [if_pos z]) h5 hp) (fun z' => td_line86 hs (by omega) (by omega) (by omega) (by omega) (by rw [if_neg z']) (by rw [if_pos z]) h5 hp)
  · unfold wX_line_74
    exact pk_eq (a % 9) (b % 9) (fun z' => td_line86 hs (by omega) (by omega) (by omega) (by omega) (by rw [if_pos z']) (by rw [if_neg z]) h5 hp) (fun z' => td_line86 hs (by omega) (by omega) (by omega) (by omega) (by rw [if_neg z']) (by rw [if_neg z]) h5 hp)
theorem td_rectL {m : Int32} {i0 e : Nat} (hs : s < 12) (hm : td_W m) (h0 : ¬ m = 0) (hi : i0 < e) (he : e < 9)
    (hp : ∀ g, (∀ j, j < 17 → td_W (R (17 * s + j)) → td_W (g j)) → (∃ j, j < 17 ∧ ¬ g j = 0) → post (nI (td_cn g 17)) (K, td_set R s g, a3, a4, a5, a6)) :
    ∃ n, wX_rectangle_95 post (nI s) m (nI (2 * e)) n (nI (2 * i0 + 1)) K R a3 a4 a5 a6 := by
  refine pk_loop (fun n i S => wX_rectangle_95 post (nI s) m (nI (2 * e)) n (nI (2 * i + 1)) K S a3 a4 a5 a6) (fun i S => td_Ia R s i0 i S) e i0 R (by omega) (td_Ia0 R s i0) ?_ ?_
  · intro n S h
    obtain ⟨g, rfl, h1, h2⟩ := h
    refine br_t (nI_le (by omega) (by omega)) (td_count hs ?_)
    rw [td_ct_set]
    exact hp g h1 (h2 hi)
  · intro n i S hi' h hw
    have i1 : vp_in (17 * nI s + nI (2 * i + 1)) 204 := by rw [td_ix]; exact vp_in_nI (by omega) (by decide)
    have c1 : (17 * nI s + nI (2 * i + 1)).toNatClampNeg = 17 * s + (2 * i + 1) := by rw [td_ix]; exact nI_clamp (by omega)
    refine br_f (nI_ge (by omega) (by omega)) ⟨i1, i1, nm_r (by rw [c1]) (nm_r (show nI (2 * i + 1) + 2 = nI (2 * (i + 1) + 1) from nI_add (2 * i + 1) 2) (hw _ (td_Ia1 (i + 1) h (by omega) hm h0)))⟩
theorem td_rect1 {p q : Int32} (hp : post (-1) (K, R, a3, a4, a5, a6)) : wpX_rectangle post (K, R, a3, a4, a5, a6) 12 p q := by
  unfold wpX_rectangle
  exact td_slot12 (br_t rfl hp)
theorem td_rect3 {p q : Int32} (hs : s < 12) (k : ¬ K s = 0) (k' : ¬ K s = 3) (hp : post (-3) (K, R, a3, a4, a5, a6)) : wpX_rectangle post (K, R, a3, a4, a5, a6) (nI s) p q := by
  unfold wpX_rectangle
  exact td_slot hs (br_f (by decide) (td_takes0 hs k k' (br_t rfl hp)))
theorem td_rect (hs : s < 12) (ha : a < 81) (hb : b < 81) (k : K s = 0 ∨ K s = 3)
    (h5 : (a / 9 = b / 9 ∨ a % 9 = b % 9) → post (-5) (K, R, a3, a4, a5, a6))
    (hp : ¬ (a / 9 = b / 9 ∨ a % 9 = b % 9) → ∀ g, (∀ j, j < 17 → td_W (R (17 * s + j)) → td_W (g j)) → (∃ j, j < 17 ∧ ¬ g j = 0) → post (nI (td_cn g 17)) (upd K s 3, td_set R s g, a3, a4, a5, a6)) :
    wpX_rectangle post (K, R, a3, a4, a5, a6) (nI s) (nI a) (nI b) := by
  have es : (nI s).toNatClampNeg = s := nI_clamp (by omega)
  have e2 : nI a - nI a / 9 * 9 = nI (a % 9) := pk_rem (d := 9) (by omega) (by omega) (by omega)
  have f2 : nI b - nI b / 9 * 9 = nI (b % 9) := pk_rem (d := 9) (by omega) (by omega) (by omega)
  unfold wpX_rectangle
  rw [e2, f2]
  refine td_slot hs (br_f (by decide) (td_takes1 hs k (br_f (by decide) (td_vert ha (br_f (by decide) (td_vert hb (br_f (by decide) (td_flat ha hb (fun z => br_f (by decide) (h5 z)) (fun z => br_t rfl ⟨pk_in s 12 hs, nm_r (by rw [es]) (td_columns ha hb ⟨by decide, by decide, td_greater (by omega) (by omega) (nm_r (td_2 _) ⟨by decide, by decide, td_lesser (by omega) (by omega) (nm_r (by rw [td_2, nI_1]) ?_)⟩)⟩)⟩)))))))))
  have q := td_swk (max (a / 9) (b / 9)) (by omega) (min (a / 9) (b / 9)) (by omega)
  exact td_rectL hs q.1 q.2 (by omega) (by omega) (hp z)
theorem td_cut (hs : s < 12) (ha : a < 81) (hb : b < 81) (hno : ∀ r, post r (K, R, a3, a4, a5, a6))
    (hp : K s = 3 → ∀ g, (∀ j, j < 17 → td_W (R (17 * s + j)) → td_W (g j)) → post (nI (td_cn g 17)) (if td_cn g 17 = 0 then upd K s 0 else K, td_set R s g, a3, a4, a5, a6)) :
    wpX_cut post (K, R, a3, a4, a5, a6) (nI s) (nI a) (nI b) := by
  have e2 : nI a - nI a / 9 * 9 = nI (a % 9) := pk_rem (d := 9) (by omega) (by omega) (by omega)
  have f2 : nI b - nI b / 9 * 9 = nI (b % 9) := pk_rem (d := 9) (by omega) (by omega) (by omega)
  unfold wpX_cut
  rw [e2, f2]
  refine td_ar hs ?_
  by_cases k0 : K s = 0
  · rw [if_pos k0]
    exact br_f (by decide) (hno _)
  · by_cases k3 : K s = 3
    · rw [if_neg k0, if_pos k3]
      refine br_t rfl (td_vert ha (br_f (by decide) (td_vert hb (br_f (by decide) (td_flat ha hb (fun z => br_f (by decide) (hno _)) (fun z => br_t rfl (td_columns ha hb ⟨by decide, by decide, td_greater (by omega) (by omega) (nm_r (td_2 _) ⟨by decide, by decide, td_lesser (by omega) (by omega) (nm_r (by rw [td_2, nI_1]) ?_)⟩)⟩)))))))
      refine pk_loop (fun n i S => wX_cut_82 post (nI s) (td_sw (min (a / 9) (b / 9)) (max (a / 9) (b / 9))) (nI (2 * max (a % 9) (b % 9))) n (nI (2 * i + 1)) K S a3 a4 a5 a6) (fun i S => ∃ g, S = td_set R s g ∧ (∀ j, j < 17 → td_W (R (17 * s + j)) → td_W (g j))) (max (a % 9) (b % 9)) (min (a % 9) (b % 9)) R (by omega) ⟨td_get R s, td_set_get R s, fun j _ h => h⟩ ?_ ?_
      · intro n S h
        obtain ⟨g, rfl, h1⟩ := h
        refine br_t (nI_le (by omega) (by omega)) (td_settle hs ?_)
        rw [td_ct_set]
        exact hp k3 g h1
      · intro n i S hi' h hw
        obtain ⟨g, rfl, h1⟩ := h
        have hj : 2 * i + 1 < 17 := by omega
        have i1 : vp_in (17 * nI s + nI (2 * i + 1)) 204 := by rw [td_ix]; exact vp_in_nI (by omega) (by decide)
        have c1 : (17 * nI s + nI (2 * i + 1)).toNatClampNeg = 17 * s + (2 * i + 1) := by rw [td_ix]; exact nI_clamp (by omega)
        refine br_f (nI_ge (by omega) (by omega)) ⟨i1, i1, nm_r (by rw [c1, td_set_in hj, td_set_upd hj]) (nm_r (show nI (2 * i + 1) + 2 = nI (2 * (i + 1) + 1) from nI_add (2 * i + 1) 2) (hw _ ⟨_, rfl, fun j hj' hw' => ?_⟩))⟩
        by_cases e : j = 2 * i + 1
        · rw [e, pk_us]
          rw [e] at hw'
          exact td_Wand (h1 _ hj hw')
        · rw [pk_un e]
          exact h1 j hj' hw'
    · rw [if_neg k0, if_neg k3]
      exact br_f (by decide) (hno _)
end
end
section
/-! ===== the invariant, and what the script draws ===== -/
def td_inv (K R : Nat → Int32) : Prop := ∀ s, s < 6 → (K s = 0 ∨ K s = 1 ∨ K s = 2 ∨ K s = 3) ∧ (∀ j, j < 17 → td_W (R (17 * s + j))) ∧ (¬ K s = 0 → ∃ j, j < 17 ∧ ¬ R (17 * s + j) = 0)
theorem td_invS {K R g : Nat → Int32} {s : Nat} {k : Int32} (h : td_inv K R) (hk : k = 0 ∨ k = 1 ∨ k = 2 ∨ k = 3) (hw : ∀ j, j < 17 → td_W (g j)) (hn : ¬ k = 0 → ∃ j, j < 17 ∧ ¬ g j = 0) : td_inv (upd K s k) (td_set R s g) := by
  intro t ht
  by_cases e : t = s
  · subst e
    rw [pk_us]
    refine ⟨hk, fun j hj => ?_, fun z => ?_⟩
    · rw [td_set_in hj]; exact hw j hj
    · obtain ⟨j, hj, hg⟩ := hn z
      exact ⟨j, hj, by rw [td_set_in hj]; exact hg⟩
  · rw [pk_un e]
    obtain ⟨h1, h2, h3⟩ := h t ht
    refine ⟨h1, fun j hj => ?_, fun z => ?_⟩
    · rw [td_set_ne e hj]; exact h2 j hj
    · obtain ⟨j, hj, hg⟩ := h3 z
      exact ⟨j, hj, by rw [td_set_ne e hj]; exact hg⟩
theorem td_cn_ne {g : Nat → Int32} (h : ¬ td_cn g 17 = 0) : ∃ j, j < 17 ∧ ¬ g j = 0 := by
  apply Classical.byContradiction
  intro n
  apply h
  apply td_cn_0.mpr
  intro j hj
  apply Classical.byContradiction
  intro z
  exact n ⟨j, hj, z⟩
theorem td_cn_nz {g : Nat → Int32} (h : ∃ j, j < 17 ∧ ¬ g j = 0) : ¬ td_cn g 17 = 0 := by
  intro z
  obtain ⟨j, hj, hg⟩ := h
  exact hg (td_cn_0.mp z j hj)
theorem td_invC {K R g : Nat → Int32} {s : Nat} (h : td_inv K R) (hs : s < 6) (hw : ∀ j, j < 17 → td_W (g j)) : td_inv (if td_cn g 17 = 0 then upd K s 0 else K) (td_set R s g) := by
  by_cases c : td_cn g 17 = 0
  · rw [if_pos c]
    exact td_invS h (Or.inl rfl) hw (fun z => absurd rfl z)
  · rw [if_neg c]
    have t := td_invS (s := s) (k := K s) (g := g) h (h s hs).1 hw (fun _ => td_cn_ne c)
    rw [td_uself K s (K s) rfl] at t
    exact t
theorem td_cfW {h a b : Int32} (ha : td_W a) (hb : td_W b) : td_W (td_cf h a b) := by
  unfold td_cf
  by_cases c0 : h = 0
  · rw [if_pos c0]; exact td_Wor ha hb
  · rw [if_neg c0]
    by_cases c1 : h = 1
    · rw [if_pos c1]; exact td_Wand ha
    · rw [if_neg c1]
      by_cases c2 : h = 2
      · rw [if_pos c2]; exact td_Wand ha
      · rw [if_neg c2]; exact td_Wxor ha hb
section
variable {post : Int32 → St1 → Prop} {K R a3 a4 a5 a6 : Nat → Int32} {s t a b : Nat}
theorem td_okPoint (h : td_inv K R) (hs : s < 6) (ha : a < 81) (hp : ∀ r K' R', td_inv K' R' → post r (K', R', a3, a4, a5, a6)) : wpX_point post (K, R, a3, a4, a5, a6) (nI s) (nI a) := by
  obtain ⟨h1, h2, h3⟩ := h s hs
  by_cases c : K s = 0 ∨ K s = 1
  · refine td_point (by omega) ha c (hp _ _ _ (td_invS h (Or.inr (Or.inl rfl)) (fun j hj => ?_) (fun _ => ⟨2 * (a % 9), by omega, ?_⟩)))
    · by_cases e : j = 2 * (a % 9)
      · rw [e, pk_us]
        exact td_Wor (h2 _ (by omega)) (td_pmk (a / 9) (by omega)).1
      · rw [pk_un e]; exact h2 j hj
    · rw [pk_us]
      exact td_a6 (td_pmk (a / 9) (by omega)).2
  · exact td_point3 (by omega) (fun z => c (Or.inl z)) (fun z => c (Or.inr z)) (hp _ _ _ h)
theorem td_okLine (h : td_inv K R) (hs : s < 6) (ha : a < 81) (hb : b < 81) (hp : ∀ r K' R', td_inv K' R' → post r (K', R', a3, a4, a5, a6)) : wpX_line post (K, R, a3, a4, a5, a6) (nI s) (nI a) (nI b) := by
  obtain ⟨h1, h2, h3⟩ := h s hs
  by_cases c : K s = 0 ∨ K s = 2
  · exact td_line (by omega) ha hb c (fun _ => hp _ _ _ h) (fun _ g hw hn => hp _ _ _ (td_invS h (Or.inr (Or.inr (Or.inl rfl))) (fun j hj => hw j hj (h2 j hj)) (fun _ => hn)))
  · exact td_line3 (by omega) (fun z => c (Or.inl z)) (fun z => c (Or.inr z)) (hp _ _ _ h)
theorem td_okRect (h : td_inv K R) (hs : s < 6) (ha : a < 81) (hb : b < 81) (hp : ∀ r K' R', td_inv K' R' → post r (K', R', a3, a4, a5, a6)) : wpX_rectangle post (K, R, a3, a4, a5, a6) (nI s) (nI a) (nI b) := by
  obtain ⟨h1, h2, h3⟩ := h s hs
  by_cases c : K s = 0 ∨ K s = 3
  · exact td_rect (by omega) ha hb c (fun _ => hp _ _ _ h) (fun _ g hw hn => hp _ _ _ (td_invS h (Or.inr (Or.inr (Or.inr rfl))) (fun j hj => hw j hj (h2 j hj)) (fun _ => hn)))
  · exact td_rect3 (by omega) (fun z => c (Or.inl z)) (fun z => c (Or.inr z)) (hp _ _ _ h)
theorem td_okCut (h : td_inv K R) (hs : s < 6) (ha : a < 81) (hb : b < 81) (hp : ∀ r K' R', td_inv K' R' → post r (K', R', a3, a4, a5, a6)) : wpX_cut post (K, R, a3, a4, a5, a6) (nI s) (nI a) (nI b) :=
  td_cut (by omega) ha hb (fun r => hp _ _ _ h) (fun _ g hw => hp _ _ _ (td_invC h hs (fun j hj => hw j hj ((h s hs).2.1 j hj))))
theorem td_okComb {q : Int32} (h : td_inv K R) (hs : s < 6) (ht : t < 6) (h0 : ¬ q < 0) (h3 : q ≤ 3) (hp : ∀ r K' R', td_inv K' R' → post r (K', R', a3, a4, a5, a6)) : wpX_combine post (K, R, a3, a4, a5, a6) (nI s) (nI t) q := by
  by_cases c : K s = 0 ∨ K t = 0
  · exact td_comb2 (by omega) (by omega) c (hp _ _ _ h)
  · have k1 : ¬ K s = 0 := fun z => c (Or.inl z)
    have k2 : ¬ K t = 0 := fun z => c (Or.inr z)
    by_cases e : K s = K t
    · exact td_comb (by omega) (by omega) h0 h3 k1 e (hp _ _ _ (td_invC h hs (fun j hj => td_cfW ((h s hs).2.1 j hj) ((h t ht).2.1 j hj))))
    · exact td_comb3 (by omega) (by omega) k1 k2 e (hp _ _ _ h)
theorem td_okClear (h : td_inv K R) (hs : s < 6) (hp : ∀ r K' R', td_inv K' R' → post r (K', R', a3, a4, a5, a6)) : wpX_clear post (K, R, a3, a4, a5, a6) (nI s) :=
  td_clear (by omega) (hp _ _ _ (td_invS h (Or.inl rfl) (fun _ _ => td_W0) (fun z => absurd rfl z)))
end
theorem td_md (x : Int32) {m : Int32} (k : Nat) (hm : m.toBitVec.toNat = 2 ^ k - 1) (hk : k ≤ 30) {d : Nat} (h0 : 0 < d) (hd : d < 2 ^ 31) : ∃ r, r < d ∧ (x &&& m) - (x &&& m) / nI d * nI d = nI r := by
  obtain ⟨j, hj, e⟩ := pk_andE x k hm
  have hl : 2 ^ k ≤ 2 ^ 30 := Nat.pow_le_pow_right (by omega) hk
  have h30 : 2 ^ 30 < 2 ^ 31 := by decide
  refine ⟨j % d, Nat.mod_lt _ h0, ?_⟩
  rw [e]
  exact pk_rem (Nat.lt_trans (Nat.lt_of_lt_of_le hj hl) h30) h0 hd
theorem td_9 (x y : Nat) : 9 * nI x + nI y = nI (9 * x + y) := by
  show nI 9 * nI x + nI y = _
  rw [pk_mul, nI_add]
theorem td_draw {post : St1 → Prop} {K R a3 a4 a5 a6 : Nat → Int32} {op c : Int32} (h : td_inv K R) (hp : ∀ K' R', td_inv K' R' → post (K', R', a3, a4, a5, a6)) : wpL_draw post (K, R, a3, a4, a5, a6) op c := by
  obtain ⟨s, hs, es⟩ := td_md c (m := 7) 3 (by decide) (by omega) (d := 6) (by omega) (by omega)
  obtain ⟨x, hx, ex⟩ := td_md (c >>> ((3 : Int32) &&& 31)) (m := 15) 4 (by decide) (by omega) (d := 9) (by omega) (by omega)
  obtain ⟨y, hy, ey⟩ := td_md (c >>> ((7 : Int32) &&& 31)) (m := 15) 4 (by decide) (by omega) (d := 9) (by omega) (by omega)
  obtain ⟨u, hu, eu⟩ := td_md (c >>> ((11 : Int32) &&& 31)) (m := 15) 4 (by decide) (by omega) (d := 9) (by omega) (by omega)
  obtain ⟨v, hv, ev⟩ := td_md (c >>> ((15 : Int32) &&& 31)) (m := 15) 4 (by decide) (by omega) (d := 9) (by omega) (by omega)
  obtain ⟨t, ht, et⟩ := td_md (c >>> ((19 : Int32) &&& 31)) (m := 7) 3 (by decide) (by omega) (d := 6) (by omega) (by omega)
  obtain ⟨q, hq, eq⟩ := pk_andE (c >>> ((22 : Int32) &&& 31)) (m := 3) 2 (by decide)
  have et' : ((c >>> ((19 : Int32) &&& 31)) &&& 7) - ((c >>> ((19 : Int32) &&& 31)) &&& 7) / 6 * 6 = nI t := et
  have hq' : q < 4 := hq
  unfold wpL_draw
  refine nm_e ⟨by decide, nm_r es ⟨by decide, nm_r ex ⟨by decide, nm_r ey ⟨by decide, nm_r eu ⟨by decide, nm_r ev ?_⟩⟩⟩⟩⟩
  rw [td_9 x y, td_9 u v, td_9 x v, td_9 u y, et', eq]
  refine br_c (fun _ => br_c (fun _ => br_c (fun _ => br_c (fun _ => br_c (fun _ => ?_) (fun _ => ⟨by decide, ?_⟩)) (fun _ => ?_)) (fun _ => ?_)) (fun _ => br_c (fun _ => ?_) (fun _ => ?_))) (fun _ => ?_)
  · exact td_okClear h hs (fun _ => hp)
  · exact td_okComb h hs ht (nI_pos (by omega)) (nI_le (b := 3) (by omega) (by omega)) (fun _ => hp)
  · exact td_okCut h hs (by omega) (by omega) (fun _ => hp)
  · exact td_okRect h hs (by omega) (by omega) (fun _ => hp)
  · unfold wL_draw_129
    exact td_okLine h hs (by omega) (by omega) (fun _ => hp)
  · unfold wL_draw_129
    exact td_okLine h hs (by omega) (by omega) (fun _ => hp)
  · exact td_okPoint h hs (by omega) (fun _ => hp)
end
section
/-! ===== same ===== -/
theorem td_set_ag {R g g' : Nat → Int32} {s : Nat} (h : td_ag 17 g g') : td_set R s g = td_set R s g' :=
  td_set_eq (fun j hj => by rw [td_set_in hj, h j hj]) (fun i hi => td_set_out hi)
section
variable {post : Int32 → St1 → Prop} {K R a3 a4 a5 a6 : Nat → Int32} {s t : Nat}
/-- combine, the new words named -/
theorem td_combG {h : Int32} (g : Nat → Int32) (hs : s < 12) (ht : t < 12) (h0 : ¬ h < 0) (h3 : h ≤ 3) (k1 : ¬ K s = 0) (k2 : K s = K t) (hg : ∀ j, j < 17 → td_cf h (R (17 * s + j)) (R (17 * t + j)) = g j)
    (hp : post (nI (td_cn g 17)) (if td_cn g 17 = 0 then upd K s 0 else K, td_set R s g, a3, a4, a5, a6)) : wpX_combine post (K, R, a3, a4, a5, a6) (nI s) (nI t) h := by
  have e : td_ag 17 (td_cg h R s t) g := hg
  refine td_comb hs ht h0 h3 k1 k2 ?_
  rw [td_cn_ag e, td_set_ag e]
  exact hp
theorem td_combSelf {h : Int32} (hs : s < 12) (hh : h = 0 ∨ h = 1) (k1 : ¬ K s = 0) (hn : ¬ td_ct R s = 0) (hp : post (nI (td_ct R s)) (K, R, a3, a4, a5, a6)) : wpX_combine post (K, R, a3, a4, a5, a6) (nI s) (nI s) h := by
  refine td_combG (td_get R s) hs hs ?_ ?_ k1 rfl ?_ ?_
  · rcases hh with rfl | rfl <;> decide
  · rcases hh with rfl | rfl <;> decide
  · intro j hj
    rcases hh with rfl | rfl
    · exact td_a4 _
    · exact td_a5 _
  · have hn' : ¬ td_cn (td_get R s) 17 = 0 := hn
    rw [if_neg hn', ← td_set_get]
    exact hp
end
theorem td_ptv1 {K R : Nat → Int32} {s i j : Nat} (k : K s = 1) (h : td_ptv K R s i j = 0) : ((R (17 * s + j) >>> (nI i &&& 31)) &&& 1) = 1 := by
  apply Classical.byContradiction
  intro n
  have e1 : td_lin (K s) (td_get R s) j = R (17 * s + j) := by
    unfold td_lin
    rw [if_neg (show ¬ K s = 3 by rw [k]; decide), if_neg (show ¬ K s = 2 by rw [k]; decide)]
    rfl
  unfold td_ptv at h
  rw [e1, if_neg (show ¬ K s = 0 by rw [k]; decide), if_neg n] at h
  by_cases c : ((td_lrm (K s) (td_get R s) j >>> (nI i &&& 31)) &&& 1) = 1
  · rw [if_pos c] at h
    exact absurd h (by decide)
  · rw [if_neg c] at h
    exact absurd h (by decide)
section
variable {post : Int32 → St1 → Prop} {K R a3 a4 a5 a6 : Nat → Int32} {s w : Nat} {v : Int64}
theorem td_same336 (hl : ∀ {post : Int64 → St1 → Prop} {a3 a4 a5 a6 : Nat → Int32}, (∀ b3 b4 b5 b6, post v (K, R, b3, b4, b5, b6)) → wpL_look post (K, R, a3, a4, a5, a6)) (hs : s < 6) (hw : w < 81) (k : ¬ K s = 0) (hn : ¬ td_ct R s = 0) (hp : ∀ b3 b4 b5 b6, post 1 (K, R, b3, b4, b5, b6)) :
    wL_same_336 post v (nI s) (K s) (nI (td_ct R s)) (nI w) K R a3 a4 a5 a6 := by
  have fin : ∀ b3 b4 b5 b6, wL_same_433 post v K R b3 b4 b5 b6 := by
    intro b3 b4 b5 b6
    unfold wL_same_433
    exact hl (fun c3 c4 c5 c6 => br_t rfl (hp _ _ _ _))
  have e1 : nI w / 9 = nI (w / 9) := pk_div (d := 9) (by omega) (by omega) (by omega)
  have e2 : nI w - nI w / 9 * 9 = nI (w % 9) := pk_rem (d := 9) (by omega) (by omega) (by omega)
  unfold wL_same_336
  rw [e2, e1, td_2, td_2]
  refine td_combSelf (by omega) (Or.inl rfl) k hn (br_t rfl (td_combSelf (by omega) (Or.inr rfl) k hn (br_t rfl (td_comb6 (by omega) k (br_t rfl (hl (fun c3 c4 c5 c6 => br_t rfl (br_c (fun z => ⟨by decide, by decide, td_part (by omega) (by omega) (by omega) (fun d3 d4 d5 d6 => br_c (fun y => ?_) (fun _ => fin _ _ _ _))⟩) (fun _ => fin _ _ _ _))))))))) 
  have e3 : upd (td_get R s) (2 * (w % 9)) (td_get R s (2 * (w % 9)) ||| td_pm w) = td_get R s := td_uself _ _ _ (td_set1 (by omega) (td_ptv1 z y)).symm
  have e4 : upd K s 1 = K := td_uself _ _ _ z
  refine td_point (by omega) hw (Or.inr z) ?_
  rw [e3, e4, ← td_set_get]
  exact br_t rfl (fin _ _ _ _)
theorem td_same281 (hl : ∀ {post : Int64 → St1 → Prop} {a3 a4 a5 a6 : Nat → Int32}, (∀ b3 b4 b5 b6, post v (K, R, b3, b4, b5, b6)) → wpL_look post (K, R, a3, a4, a5, a6)) (hs : s < 6) (hw : w < 81) (k : ¬ K s = 0) (hn : ¬ td_ct R s = 0) (hp : ∀ b3 b4 b5 b6, post 1 (K, R, b3, b4, b5, b6)) :
    wL_same_281 post v (nI s) (K s) (nI (td_ct R s)) (nI w) K R a3 a4 a5 a6 := by
  unfold wL_same_281
  exact br_c (fun z => td_same336 hl hs hw k hn hp) (fun z => td_rect3 (by omega) k z (br_t rfl (td_fill3 (by omega) k z (br_t rfl (td_holes3 (by omega) k z (br_t rfl (td_rim3 (by omega) k z (br_t rfl (td_same336 hl hs hw k hn hp)))))))))
theorem td_same262 (hl : ∀ {post : Int64 → St1 → Prop} {a3 a4 a5 a6 : Nat → Int32}, (∀ b3 b4 b5 b6, post v (K, R, b3, b4, b5, b6)) → wpL_look post (K, R, a3, a4, a5, a6)) (hs : s < 6) (hw : w < 81) (k : ¬ K s = 0) (hn : ¬ td_ct R s = 0) (hp : ∀ b3 b4 b5 b6, post 1 (K, R, b3, b4, b5, b6)) :
    wL_same_262 post v (nI s) (K s) (nI (td_ct R s)) (nI w) K R a3 a4 a5 a6 := by
  unfold wL_same_262
  exact br_c (fun z => td_same281 hl hs hw k hn hp) (fun z => td_line3 (by omega) k z (br_t rfl (td_same281 hl hs hw k hn hp)))
end
theorem td_Same {post : Int32 → St1 → Prop} {K R a3 a4 a5 a6 : Nat → Int32} {c : Int32} (h : td_inv K R) (hp : ∀ b3 b4 b5 b6, post 1 (K, R, b3, b4, b5, b6)) : wpL_same post (K, R, a3, a4, a5, a6) c := by
  obtain ⟨v, hl⟩ := td_look K R
  obtain ⟨s, hs, es⟩ := td_md c (m := 7) 3 (by decide) (by omega) (d := 6) (by omega) (by omega)
  obtain ⟨w, hw, ew⟩ := td_md (c >>> ((3 : Int32) &&& 31)) (m := 127) 7 (by decide) (by omega) (d := 81) (by omega) (by omega)
  have rest : ∀ b3 b4 b5 b6, ¬ K s = 0 → wL_same_262 post v (nI s) (K s) (nI (td_ct R s)) (nI w) K R b3 b4 b5 b6 := by
    intro b3 b4 b5 b6 k
    exact td_same262 hl hs hw k (td_cn_nz ((h s hs).2.2 k)) hp
  unfold wpL_same
  refine hl (fun b3 b4 b5 b6 => ⟨by decide, nm_r es (td_kind (by omega) (td_size (by omega) ⟨by decide, nm_r ew ?_⟩))⟩)
  refine td_point1 (br_t rfl (td_line1 (br_t rfl (td_rect1 (br_t rfl (td_cut1 (br_t rfl (td_comb1 (by omega) (br_t rfl (td_grow1 (br_t rfl (td_outl (br_t rfl (td_pairs7 (br_t rfl (hl (fun c3 c4 c5 c6 => br_t rfl ?_)))))))))))))))))
  refine br_c (fun k => ?_) (fun k => br_c (fun k1 => rest _ _ _ _ k) (fun k1 => td_point3 (by omega) k k1 (br_t rfl (rest _ _ _ _ k))))
  refine td_comb2 (by omega) (by omega) (Or.inl k) (br_t rfl (td_grow2 (by omega) k (br_t rfl (td_cut2 (by omega) k (br_t rfl (td_point4 (by omega) k (br_t rfl ?_)))))))
  refine td_line (a := 0) (b := 10) (by omega) (by omega) (by omega) (Or.inl k) (fun _ => br_t rfl ?_) (fun z => absurd (by decide) z)
  refine td_rect (a := 0) (b := 1) (by omega) (by omega) (by omega) (Or.inl k) (fun _ => br_t rfl ?_) (fun z => absurd (by decide) z)
  exact hl (fun d3 d4 d5 d6 => br_t rfl (hp _ _ _ _))
end
section
/-! ===== copy ===== -/
theorem td_set_set {R g g' : Nat → Int32} {s : Nat} : td_set (td_set R s g) s g' = td_set R s g' :=
  td_set_eq (fun j hj => td_set_in hj) (fun i hi => by rw [td_set_out hi, td_set_out hi])
section
variable {post : St1 → Prop} {K R a3 a4 a5 a6 X : Nat → Int32} {s t : Nat} {p : Int32}
theorem td_cp120 (hs : s < 6) (ht : t < 12) (h6 : 6 ≤ t) (k : ¬ K s = 0) (hn : ∃ j, j < 17 ∧ ¬ R (17 * s + j) = 0) (hp : post (upd K t (K s), td_set R t (td_get R s), a3, a4, a5, a6)) :
    wL_copy_120 post (nI s) (nI t) (upd K t (K s)) (td_set R t X) a3 a4 a5 a6 := by
  have ne : s ≠ t := by omega
  have k1 : ¬ upd K t (K s) t = 0 := by rw [pk_us]; exact k
  have k2 : upd K t (K s) t = upd K t (K s) s := by rw [pk_us, pk_un ne]
  obtain ⟨j0, hj0, hr0⟩ := hn
  have n1 : ¬ td_cn (fun j => X j ||| R (17 * s + j)) 17 = 0 := td_cn_nz ⟨j0, hj0, td_a6 hr0⟩
  have n2 : ¬ td_cn (td_get R s) 17 = 0 := td_cn_nz ⟨j0, hj0, hr0⟩
  unfold wL_copy_120
  refine td_combG (fun j => X j ||| R (17 * s + j)) ht (by omega) (by decide) (by decide) k1 k2 (fun j hj => ?_) ?_
  · rw [td_set_in hj, td_set_ne ne hj]
    rfl
  · rw [if_neg n1, td_set_set]
    refine td_combG (td_get R s) ht (by omega) (by decide) (by decide) k1 k2 (fun j hj => ?_) ?_
    · rw [td_set_in hj, td_set_ne ne hj]
      exact td_a1 _ _
    · rw [if_neg n2, td_set_set]
      exact hp
theorem td_cp97 (hs : s < 6) (ht : t < 12) (h6 : 6 ≤ t) (k : ¬ K s = 0) (hk : p = K s ∨ (p = 0 ∧ K s = 3)) (hn : ∃ j, j < 17 ∧ ¬ R (17 * s + j) = 0) (hp : post (upd K t (K s), td_set R t (td_get R s), a3, a4, a5, a6)) :
    wL_copy_97 post (nI s) (nI t) (K s) (upd K t p) (td_set R t X) a3 a4 a5 a6 := by
  unfold wL_copy_97
  refine td_kind ht ?_
  rw [pk_us]
  rcases hk with rfl | ⟨rfl, k3⟩
  · exact br_f k (td_cp120 hs ht h6 k hn hp)
  · refine br_t rfl (br_t k3 (td_rect (a := 80) (b := 70) ht (by omega) (by omega) (Or.inl pk_us) (fun z => absurd z (by decide)) (fun _ g _ _ => ?_)))
    rw [td_uu, td_set_set]
    have q := td_cp120 (X := g) hs ht h6 k hn hp
    rw [k3] at q
    exact q
theorem td_cp74 (hs : s < 6) (ht : t < 12) (h6 : 6 ≤ t) (k : ¬ K s = 0) (hk : p = K s ∨ (p = 0 ∧ (K s = 2 ∨ K s = 3))) (hn : ∃ j, j < 17 ∧ ¬ R (17 * s + j) = 0) (hp : post (upd K t (K s), td_set R t (td_get R s), a3, a4, a5, a6)) :
    wL_copy_74 post (nI s) (nI t) (K s) (upd K t p) (td_set R t X) a3 a4 a5 a6 := by
  unfold wL_copy_74
  refine td_kind ht ?_
  rw [pk_us]
  rcases hk with rfl | ⟨rfl, k2 | k3⟩
  · exact br_f k (td_cp97 hs ht h6 k (Or.inl rfl) hn hp)
  · refine br_t rfl (br_t k2 (td_line (a := 80) (b := 79) ht (by omega) (by omega) (Or.inl pk_us) (fun z => absurd z (by decide)) (fun _ g _ _ => ?_)))
    rw [td_uu, td_set_set]
    have q := td_cp97 (X := g) (p := K s) hs ht h6 k (Or.inl rfl) hn hp
    rw [k2] at q ⊢
    exact q
  · exact br_t rfl (br_f (by rw [k3]; decide) (td_cp97 hs ht h6 k (Or.inr ⟨rfl, k3⟩) hn hp))
theorem td_cp45 (hs : s < 6) (ht : t < 12) (h6 : 6 ≤ t) (hk : K s = 1 ∨ K s = 2 ∨ K s = 3) (hn : ∃ j, j < 17 ∧ ¬ R (17 * s + j) = 0) (hp : post (upd K t (K s), td_set R t (td_get R s), a3, a4, a5, a6)) :
    wL_copy_45 post (nI s) (nI t) (K s) (upd K t (K s)) (td_set R t X) a3 a4 a5 a6 := by
  have ne : s ≠ t := by omega
  have k : ¬ K s = 0 := by rcases hk with e | e | e <;> rw [e] <;> decide
  have k1 : ¬ upd K t (K s) t = 0 := by rw [pk_us]; exact k
  have k2 : upd K t (K s) t = upd K t (K s) s := by rw [pk_us, pk_un ne]
  unfold wL_copy_45
  refine td_combG (fun j => X j &&& R (17 * s + j)) ht (by omega) (by decide) (by decide) k1 k2 (fun j hj => ?_) ?_
  · rw [td_set_in hj, td_set_ne ne hj]
    rfl
  · rw [td_set_set]
    by_cases c : td_cn (fun j => X j &&& R (17 * s + j)) 17 = 0
    · rw [if_pos c, td_uu]
      refine td_kind ht ?_
      rw [pk_us]
      refine br_t rfl ?_
      rcases hk with e | e
      · refine br_t e (td_point (v := 80) ht (by omega) (Or.inl pk_us) ?_)
        rw [td_uu, td_set_set]
        have q := td_cp74 (X := upd (td_get (td_set R t (fun j => X j &&& R (17 * s + j))) t) (2 * (80 % 9)) (td_get (td_set R t (fun j => X j &&& R (17 * s + j))) t (2 * (80 % 9)) ||| td_pm 80)) (p := K s) hs ht h6 k (Or.inl rfl) hn hp
        rw [e] at q ⊢
        exact q
      · exact br_f (by rcases e with e | e <;> rw [e] <;> decide) (td_cp74 hs ht h6 k (Or.inr ⟨rfl, e⟩) hn hp)
    · rw [if_neg c]
      refine td_kind ht ?_
      rw [pk_us]
      exact br_f k (td_cp74 hs ht h6 k (Or.inl rfl) hn hp)
theorem td_copy (hs : s < 6) (ht : t < 12) (h6 : 6 ≤ t) (k0 : K t = 0) (hk : K s = 1 ∨ K s = 2 ∨ K s = 3) (hn : ∃ j, j < 17 ∧ ¬ R (17 * s + j) = 0) (hp : post (upd K t (K s), td_set R t (td_get R s), a3, a4, a5, a6)) :
    wpL_copy post (K, R, a3, a4, a5, a6) (nI s) (nI t) := by
  unfold wpL_copy
  refine td_kind (by omega) ?_
  rcases hk with e | e | e
  · refine br_t e (td_point (v := 0) ht (by omega) (Or.inl k0) ?_)
    unfold wL_copy_18
    refine br_f (by rw [e]; decide) ?_
    unfold wL_copy_31
    refine br_f (by rw [e]; decide) ?_
    have q := td_cp45 (X := upd (td_get R t) (2 * (0 % 9)) (td_get R t (2 * (0 % 9)) ||| td_pm 0)) hs ht h6 (Or.inl e) hn hp
    rw [e] at q ⊢
    exact q
  · refine br_f (by rw [e]; decide) ?_
    unfold wL_copy_18
    refine br_t e (td_line (a := 0) (b := 1) ht (by omega) (by omega) (Or.inl k0) (fun z => absurd z (by decide)) (fun _ g _ _ => ?_))
    unfold wL_copy_31
    refine br_f (by rw [e]; decide) ?_
    have q := td_cp45 (X := g) hs ht h6 (Or.inr (Or.inl e)) hn hp
    rw [e] at q ⊢
    exact q
  · refine br_f (by rw [e]; decide) ?_
    unfold wL_copy_18
    refine br_f (by rw [e]; decide) ?_
    unfold wL_copy_31
    refine br_t e (td_rect (a := 0) (b := 10) ht (by omega) (by omega) (Or.inl k0) (fun z => absurd z (by decide)) (fun _ g _ _ => ?_))
    have q := td_cp45 (X := g) hs ht h6 (Or.inr (Or.inr e)) hn hp
    rw [e] at q ⊢
    exact q
end
end
section
/-! ===== sets ===== -/
theorem td_set_comm {R f g : Nat → Int32} {s t : Nat} (h : s ≠ t) : td_set (td_set R s f) t g = td_set (td_set R t g) s f := by
  funext i
  unfold td_set
  by_cases a : 17 * s ≤ i ∧ i < 17 * s + 17
  · have b : ¬ (17 * t ≤ i ∧ i < 17 * t + 17) := by omega
    simp only [if_pos a, if_neg b]
  · simp only [if_neg a]
theorem td_uc {f : Nat → Int32} {a b : Nat} {x y : Int32} (h : a ≠ b) : upd (upd f a x) b y = upd (upd f b y) a x := by
  funext j
  by_cases e : j = a
  · subst e
    rw [pk_us, pk_un h, pk_us]
  · rw [pk_un e]
    by_cases e' : j = b
    · subst e'
      rw [pk_us, pk_us]
    · rw [pk_un e', pk_un e', pk_un e]
def td_z : Nat → Int32 := fun _ => 0
def td_st (R : Nat → Int32) (s : Nat) (f10 f11 fs : Nat → Int32) : Nat → Int32 := td_set (td_set (td_set R s fs) 10 f10) 11 f11
def td_k (K : Nat → Int32) (s : Nat) (k10 k11 ks : Int32) : Nat → Int32 := upd (upd (upd K s ks) 10 k10) 11 k11
section
variable {K R f10 f11 fs g : Nat → Int32} {s t j : Nat} {k10 k11 ks x : Int32}
theorem td_st_10 (hj : j < 17) : td_st R s f10 f11 fs (17 * 10 + j) = f10 j := by
  unfold td_st; rw [td_set_ne (by omega) hj, td_set_in hj]
theorem td_st_11 (hj : j < 17) : td_st R s f10 f11 fs (17 * 11 + j) = f11 j := by
  unfold td_st; rw [td_set_in hj]
theorem td_st_s (hs : s < 6) (hj : j < 17) : td_st R s f10 f11 fs (17 * s + j) = fs j := by
  unfold td_st; rw [td_set_ne (by omega) hj, td_set_ne (by omega) hj, td_set_in hj]
theorem td_st_t (ht : t < 6) (ne : s ≠ t) (hj : j < 17) : td_st R s f10 f11 fs (17 * t + j) = R (17 * t + j) := by
  unfold td_st; rw [td_set_ne (by omega) hj, td_set_ne (by omega) hj, td_set_ne (by omega) hj]
theorem td_st_set10 : td_set (td_st R s f10 f11 fs) 10 g = td_st R s g f11 fs := by
  unfold td_st; rw [td_set_comm (by omega), td_set_set]
theorem td_st_set11 : td_set (td_st R s f10 f11 fs) 11 g = td_st R s f10 g fs := by
  unfold td_st; rw [td_set_set]
theorem td_st_sets (hs : s < 6) : td_set (td_st R s f10 f11 fs) s g = td_st R s f10 f11 g := by
  unfold td_st; rw [td_set_comm (show 11 ≠ s by omega), td_set_comm (show 10 ≠ s by omega), td_set_set]
theorem td_k_10 : td_k K s k10 k11 ks 10 = k10 := by
  unfold td_k; rw [pk_un (by omega), pk_us]
theorem td_k_11 : td_k K s k10 k11 ks 11 = k11 := by
  unfold td_k; rw [pk_us]
theorem td_k_s (hs : s < 6) : td_k K s k10 k11 ks s = ks := by
  unfold td_k; rw [pk_un (by omega), pk_un (by omega), pk_us]
theorem td_k_t (ht : t < 6) (ne : s ≠ t) : td_k K s k10 k11 ks t = K t := by
  unfold td_k; rw [pk_un (by omega), pk_un (by omega), pk_un (by omega)]
theorem td_k_upd10 : upd (td_k K s k10 k11 ks) 10 x = td_k K s x k11 ks := by
  unfold td_k; rw [td_uc (by omega), td_uu]
theorem td_k_upd11 : upd (td_k K s k10 k11 ks) 11 x = td_k K s k10 x ks := by
  unfold td_k; rw [td_uu]
theorem td_k_upds (hs : s < 6) : upd (td_k K s k10 k11 ks) s x = td_k K s k10 k11 x := by
  unfold td_k; rw [td_uc (show 11 ≠ s by omega), td_uc (show 10 ≠ s by omega), td_uu]
theorem td_inv_st (h : td_inv K R) (hk : ks = 0 ∨ ks = 1 ∨ ks = 2 ∨ ks = 3) (hw : ∀ j, j < 17 → td_W (fs j)) (hn : ¬ ks = 0 → ∃ j, j < 17 ∧ ¬ fs j = 0) : td_inv (td_k K s 0 0 ks) (td_st R s td_z td_z fs) :=
  td_invS (td_invS (td_invS h hk hw hn) (Or.inl rfl) (fun _ _ => td_W0) (fun z => absurd rfl z)) (Or.inl rfl) (fun _ _ => td_W0) (fun z => absurd rfl z)
end
section
variable {post : Int32 → St1 → Prop} {K R a3 a4 a5 a6 f10 f11 X : Nat → Int32} {s t all both : Nat} {v : Int64} {k10 k11 ks : Int32}
theorem td_s185 (hl : ∀ {post : Int64 → St1 → Prop} {a3 a4 a5 a6 : Nat → Int32}, (∀ b3 b4 b5 b6, post v (td_k K s 0 0 (K s), td_st R s td_z td_z (td_get R s), b3, b4, b5, b6)) → wpL_look post (td_k K s 0 0 (K s), td_st R s td_z td_z (td_get R s), a3, a4, a5, a6))
    (ha : all < 1000) (hb : both < 1000) (hA : td_inv (td_k K s 0 0 ks) (td_st R s td_z td_z X)) (hB : all ≠ both → ks = K s ∧ td_ag 17 X (td_get R s)) (hp : ∀ K' R' b3 b4 b5 b6, td_inv K' R' → post 1 (K', R', b3, b4, b5, b6)) :
    wL_sets_185 post v (nI all) (nI both) (td_k K s k10 k11 ks) (td_st R s f10 f11 X) a3 a4 a5 a6 := by
  unfold wL_sets_185
  refine td_clear (s := 10) (by omega) (td_clear (s := 11) (by omega) ?_)
  rw [td_k_upd10, td_k_upd11, td_st_set10, td_st_set11]
  refine pk_eq all both (fun _ => hp _ _ _ _ _ _ hA) (fun z => ?_)
  obtain ⟨e1, e2⟩ := hB z
  have e3 : td_st R s (fun _ => 0) (fun _ => 0) X = td_st R s td_z td_z (td_get R s) := by
    unfold td_st; rw [td_set_ag e2]; rfl
  have e4 : td_st R s td_z td_z X = td_st R s td_z td_z (td_get R s) := e3
  rw [e3, e1]
  rw [e1, e4] at hA
  exact hl (fun b3 b4 b5 b6 => br_t rfl (hp _ _ _ _ _ _ hA))
theorem td_s164 (hl : ∀ {post : Int64 → St1 → Prop} {a3 a4 a5 a6 : Nat → Int32}, (∀ b3 b4 b5 b6, post v (td_k K s 0 0 (K s), td_st R s td_z td_z (td_get R s), b3, b4, b5, b6)) → wpL_look post (td_k K s 0 0 (K s), td_st R s td_z td_z (td_get R s), a3, a4, a5, a6))
    (h : td_inv K R) (hs : s < 6) (ht : t < 6) (ne : s ≠ t) (k : ¬ K s = 0) (kt : K s = K t) (ha : all < 1000) (hb : both < 1000) (hX : ∀ j, j < 17 → X j = R (17 * s + j) ^^^ R (17 * t + j)) (hx : td_cn X 17 + both = all) (hks : ks = if td_cn X 17 = 0 then 0 else K s) (hp : ∀ K' R' b3 b4 b5 b6, td_inv K' R' → post 1 (K', R', b3, b4, b5, b6)) :
    wL_sets_164 post (nI s) (nI t) v (nI (td_cn (td_get R s) 17)) (nI all) (nI both) (td_k K s k10 k11 ks) (td_st R s f10 f11 X) a3 a4 a5 a6 := by
  obtain ⟨hk, hw, hn⟩ := h s hs
  unfold wL_sets_164
  refine pk_le all both (fun z => ?_) (fun z => ?_)
  · have e0 : td_cn X 17 = 0 := by omega
    rw [if_pos e0] at hks
    subst hks
    refine td_s185 hl ha hb (td_inv_st h (Or.inl rfl) (fun j hj => ?_) (fun y => absurd rfl y)) (fun y => absurd (by omega) y) hp
    rw [hX j hj]
    exact td_Wxor (hw j hj) ((h t ht).2.1 j hj)
  · have e0 : ¬ td_cn X 17 = 0 := by omega
    rw [if_neg e0] at hks
    subst hks
    have n0 : ¬ td_cn (td_get R s) 17 = 0 := td_cn_nz (hn k)
    refine td_combG (td_get R s) (by omega) (by omega) (by decide) (by decide) (by rw [td_k_s hs]; exact k) (by rw [td_k_s hs, td_k_t ht ne]; exact kt) (fun j hj => ?_) ?_
    · rw [td_st_s hs hj, td_st_t ht ne hj, hX j hj]
      exact td_a3 _ _
    · rw [if_neg n0, td_st_sets hs]
      exact br_t rfl (td_s185 hl ha hb (td_inv_st h hk hw hn) (fun _ => ⟨rfl, fun _ _ => rfl⟩) hp)
end
theorem td_copyG {post : St1 → Prop} {K R a3 a4 a5 a6 g : Nat → Int32} {s t : Nat} {k : Int32} (hs : s < 6) (ht : t < 12) (h6 : 6 ≤ t) (k0 : K t = 0) (ek : K s = k) (hk : k = 1 ∨ k = 2 ∨ k = 3) (eg : td_ag 17 (td_get R s) g) (hn : ∃ j, j < 17 ∧ ¬ g j = 0) (hp : post (upd K t k, td_set R t g, a3, a4, a5, a6)) :
    wpL_copy post (K, R, a3, a4, a5, a6) (nI s) (nI t) := by
  subst ek
  obtain ⟨j, hj, hg⟩ := hn
  refine td_copy hs ht h6 k0 hk ⟨j, hj, fun z => hg ((eg j hj).symm.trans z)⟩ ?_
  rw [td_set_ag eg]
  exact hp
theorem td_Sets {post : Int32 → St1 → Prop} {K R a3 a4 a5 a6 : Nat → Int32} {s t : Nat} (h : td_inv K R) (hs : s < 6) (ht : t < 6) (hp : ∀ K' R' b3 b4 b5 b6, td_inv K' R' → post 1 (K', R', b3, b4, b5, b6)) : wpL_sets post (K, R, a3, a4, a5, a6) (nI s) (nI t) := by
  obtain ⟨hk, hw, hn⟩ := h s hs
  obtain ⟨hk', hw', hn'⟩ := h t ht
  unfold wpL_sets
  refine td_kind (by omega) ?_
  by_cases k : K s = 0
  · exact br_t (by rw [k]; decide) (hp _ _ _ _ _ _ h)
  have hk3 : K s = 1 ∨ K s = 2 ∨ K s = 3 := hk.resolve_left k
  refine br_f (by rcases hk3 with e | e | e <;> rw [e] <;> decide) (td_kind (by omega) (td_kind (by omega) ?_))
  by_cases kt' : ¬ K s = K t
  · exact br_f kt' (hp _ _ _ _ _ _ h)
  have kt : K s = K t := Classical.not_not.mp kt'
  refine br_t kt ?_
  by_cases ne : s = t
  · exact br_t (by rw [ne]) (hp _ _ _ _ _ _ h)
  refine br_f (fun z => ne ((nI_eq (by omega) (by omega)).mp z)) ?_
  obtain ⟨v, hl⟩ := td_look (td_k K s 0 0 (K s)) (td_st R s td_z td_z (td_get R s))
  refine td_clear (s := 10) (by omega) (td_clear (s := 11) (by omega) ?_)
  have eK : upd (upd K 10 0) 11 0 = td_k K s 0 0 (K s) := by
    unfold td_k; rw [td_uself K s (K s) rfl]
  have eR : td_set (td_set R 10 (fun _ => 0)) 11 (fun _ => 0) = td_st R s td_z td_z (td_get R s) := by
    unfold td_st; rw [← td_set_get]; rfl
  rw [eK, eR]
  have nA := hn k
  refine hl (fun b3 b4 b5 b6 => ?_)
  refine td_copyG (t := 10) (g := td_get R s) hs (by omega) (by omega) td_k_10 (td_k_s hs) hk3 (fun j hj => td_st_s hs hj) nA ?_
  rw [td_k_upd10, td_st_set10]
  refine td_copyG (t := 11) (g := td_get R s) hs (by omega) (by omega) td_k_11 (td_k_s hs) hk3 (fun j hj => td_st_s hs hj) nA ?_
  rw [td_k_upd11, td_st_set11]
  have c1 : td_ct (td_st R s (td_get R s) (td_get R s) (td_get R s)) s = td_cn (td_get R s) 17 := td_cn_ag (fun j hj => td_st_s hs hj)
  refine td_size (by omega) ?_
  rw [c1]
  have F1 := td_cn_or (f := td_get R s) (g := td_get R t) 17 hw hw'
  have F2 := td_cn_xor (f := td_get R s) (g := td_get R t) 17 hw hw'
  have L1 := td_cn_le (td_get R s) 17
  have L2 := td_cn_le (td_get R t) 17
  have L3 := td_cn_le (fun j => td_get R s j ||| td_get R t j) 17
  have N1 : ¬ td_cn (td_get R s) 17 = 0 := td_cn_nz nA
  have N3 : ¬ td_cn (fun j => td_get R s j ||| td_get R t j) 17 = 0 := by
    obtain ⟨j, hj, hg⟩ := nA
    exact td_cn_nz ⟨j, hj, td_a7 hg⟩
  refine td_combG (s := 10) (fun j => td_get R s j ||| td_get R t j) (by omega) (by omega) (by decide) (by decide) (by rw [td_k_10]; exact k) (by rw [td_k_10, td_k_t ht ne]; exact kt) (fun j hj => ?_) ?_
  · rw [td_st_10 hj, td_st_t ht ne hj]
    rfl
  rw [if_neg N3, td_st_set10]
  refine td_combG (s := 11) (fun j => td_get R s j &&& td_get R t j) (by omega) (by omega) (by decide) (by decide) (by rw [td_k_11]; exact k) (by rw [td_k_11, td_k_t ht ne]; exact kt) (fun j hj => ?_) ?_
  · rw [td_st_11 hj, td_st_t ht ne hj]
    rfl
  rw [td_st_set11]
  have eI : (if td_cn (fun j => td_get R s j &&& td_get R t j) 17 = 0 then upd (td_k K s (K s) (K s) (K s)) 11 0 else td_k K s (K s) (K s) (K s)) = td_k K s (K s) (if td_cn (fun j => td_get R s j &&& td_get R t j) 17 = 0 then 0 else K s) (K s) := by
    by_cases c : td_cn (fun j => td_get R s j &&& td_get R t j) 17 = 0
    · rw [if_pos c, if_pos c, td_k_upd11]
    · rw [if_neg c, if_neg c]
  rw [eI]
  have c2 : td_ct (td_st R s (fun j => td_get R s j ||| td_get R t j) (fun j => td_get R s j &&& td_get R t j) (td_get R s)) t = td_cn (td_get R t) 17 := td_cn_ag (fun j hj => td_st_t ht ne hj)
  refine td_size (by omega) ?_
  rw [c2]
  generalize eb : td_cn (fun j => td_get R s j &&& td_get R t j) 17 = both at *
  generalize ea : td_cn (fun j => td_get R s j ||| td_get R t j) 17 = all at *
  have L4 : both ≤ td_cn (td_get R s) 17 + td_cn (td_get R t) 17 := by omega
  refine br_t ?_ ?_
  · rw [nI_add, pk_sub L4, show td_cn (td_get R s) 17 + td_cn (td_get R t) 17 - both = all by omega]
  refine td_combG (fun j => td_get R s j ^^^ td_get R t j) (by omega) (by omega) (by decide) (by decide) (by rw [td_k_s hs]; exact k) (by rw [td_k_s hs, td_k_t ht ne]; exact kt) (fun j hj => ?_) ?_
  · rw [td_st_s hs hj, td_st_t ht ne hj]
    rfl
  rw [td_st_sets hs]
  have eJ : ∀ k11 : Int32, (if td_cn (fun j => td_get R s j ^^^ td_get R t j) 17 = 0 then upd (td_k K s (K s) k11 (K s)) s 0 else td_k K s (K s) k11 (K s)) = td_k K s (K s) k11 (if td_cn (fun j => td_get R s j ^^^ td_get R t j) 17 = 0 then 0 else K s) := by
    intro k11
    by_cases c : td_cn (fun j => td_get R s j ^^^ td_get R t j) 17 = 0
    · rw [if_pos c, if_pos c, td_k_upds hs]
    · rw [if_neg c, if_neg c]
  rw [eJ]
  refine br_t ?_ ?_
  · rw [pk_sub (by omega), show all - both = td_cn (fun j => td_get R s j ^^^ td_get R t j) 17 by omega]
  refine pk_le both 0 (fun z => ?_) (fun z => ?_)
  · exact td_s164 hl h hs ht ne k kt (by omega) (by omega) (fun _ _ => rfl) F2 rfl hp
  refine pk_le all both (fun z' => ?_) (fun z' => ?_)
  · exact td_s164 hl h hs ht ne k kt (by omega) (by omega) (fun _ _ => rfl) F2 rfl hp
  have nx : ¬ td_cn (fun j => td_get R s j ^^^ td_get R t j) 17 = 0 := by omega
  have nb : ¬ both = 0 := by omega
  rw [if_neg nx, if_neg nb]
  refine td_combG (s := 11) (fun j => td_get R s j ||| td_get R t j) (by omega) (by omega) (by decide) (by decide) (by rw [td_k_11]; exact k) (by rw [td_k_11, td_k_s hs]) (fun j hj => ?_) ?_
  · rw [td_st_11 hj, td_st_s hs hj]
    exact td_a2 _ _
  rw [ea, if_neg N3, td_st_set11]
  refine br_t rfl (td_is0 (a := 11) (b := 10) (by omega) (by omega) (by rw [td_k_11, td_k_10]) (fun j hj => ?_) (by rw [td_k_11]; exact k) (fun d3 d4 => br_t rfl ?_))
  · show td_st _ _ _ _ _ (17 * 11 + j) = td_st _ _ _ _ _ (17 * 10 + j)
    rw [td_st_11 hj, td_st_10 hj]
  exact td_s164 hl h hs ht ne k kt (by omega) (by omega) (fun _ _ => rfl) F2 (by rw [if_neg nx]) hp
end
section
/-! ===== the law ===== -/
theorem td_law102 {L : Nat} {xs : Nat → Int32} {kc ks : Nat} {K R a3 a4 a5 a6 : Nat → Int32} (h : td_inv K R) : wL_law_102 (fun r => r = 1) L xs kc ks K R a3 a4 a5 a6 := by
  unfold wL_law_102
  exact td_Same h (fun _ _ _ _ => rfl)
theorem td_law59 {L : Nat} {xs : Nat → Int32} {kc ks i : Nat} {x3 : Int32} {J10 : Int32 → (Nat → Int32) → (Nat → Int32) → (Nat → Int32) → (Nat → Int32) → (Nat → Int32) → (Nat → Int32) → Prop} {K R a3 a4 a5 a6 : Nat → Int32} (hL : L ≤ 260) (hi : i < L) (h : td_inv K R)
    (hp : ∀ K' R' b3 b4 b5 b6, td_inv K' R' → J10 (nI (i + 2)) K' R' b3 b4 b5 b6) : wL_law_59 (fun r => r = 1) L xs J10 (nI i) x3 kc ks K R a3 a4 a5 a6 := by
  obtain ⟨s, hs, es⟩ := td_md x3 (m := 7) 3 (by decide) (by omega) (d := 6) (by omega) (by omega)
  obtain ⟨t, ht, et⟩ := td_md (x3 >>> ((19 : Int32) &&& 31)) (m := 7) 3 (by decide) (by omega) (d := 6) (by omega) (by omega)
  have es' : (x3 &&& 7) - (x3 &&& 7) / 6 * 6 = nI s := es
  have et' : ((x3 >>> ((19 : Int32) &&& 31)) &&& 7) - ((x3 >>> ((19 : Int32) &&& 31)) &&& 7) / 6 * 6 = nI t := et
  have e2 : nI i + 2 = nI (i + 2) := nI_add i 2
  unfold wL_law_59
  rw [es', et']
  refine ⟨pk_in i L hi, br_c (fun _ => ⟨by decide, by decide, td_Sets h hs ht (fun K' R' b3 b4 b5 b6 h' => br_f (by decide) (nm_r e2 (hp _ _ _ _ _ _ h')))⟩) (fun _ => nm_r e2 (hp _ _ _ _ _ _ h))⟩
theorem td_lawL {L : Nat} {xs : Nat → Int32} {kc ks : Nat} (hL : L ≤ 260) : ∀ (d i : Nat), i + d = 24 → ∀ K R a3 a4 a5 a6 : Nat → Int32, td_inv K R → wL_law_10 (fun r => r = 1) L xs kc ks (d + 1) (nI (2 * i)) K R a3 a4 a5 a6
  | 0, i, e, K, R, a3, a4, a5, a6, h => by
    have e' : i = 24 := by omega
    subst e'
    exact br_c (fun _ => td_law102 h) (fun _ => br_t (by decide) (td_law102 h))
  | d + 1, i, e, K, R, a3, a4, a5, a6, h => by
    have e2 : nI (2 * i) + 2 = nI (2 * i + 2) := nI_add (2 * i) 2
    refine pk_lt L (2 * i + 2) (fun _ => td_law102 h) (fun z => br_f (nI_ge (b := 48) (by omega) (by omega)) ⟨pk_in (2 * i + 1) L (by omega) (nI_1 _), nm_e ⟨pk_in (2 * i) L (by omega), td_draw h (fun K' R' h' => ⟨pk_in (2 * i) L (by omega), br_c (fun _ => ?_) (fun _ => ?_)⟩)⟩⟩) rfl e2
    · exact td_Same h' (fun b3 b4 b5 b6 => br_f (by decide) (td_law59 hL (by omega) h' (fun K'' R'' c3 c4 c5 c6 h'' => td_lawL hL d (i + 1) (by omega) _ _ _ _ _ _ h'')))
    · exact td_law59 hL (by omega) h' (fun K'' R'' c3 c4 c5 c6 h'' => td_lawL hL d (i + 1) (by omega) _ _ _ _ _ _ h'')
theorem td_inv0 : td_inv (upd (fun _ => 0) 0 0) (fun _ => 0) := by
  intro s hs
  have e : upd (fun _ => 0) 0 0 s = 0 := by
    by_cases c : s = 0
    · rw [c, pk_us]
    · rw [pk_un c]
  exact ⟨Or.inl e, fun _ _ => td_W0, fun z => absurd e z⟩
theorem i_vc (xs : Nat → Int32) (L : Nat) (hL : L ≤ 260) : wpL_law (fun r => r = 1) L xs := by
  unfold wpL_law
  refine ⟨6, 318, by omega, by omega, ?_⟩
  unfold wpX_init
  refine ⟨by omega, by omega, by omega, by omega, by omega, by omega, by omega, by omega, by omega, by omega, by omega, by omega, nm_e ?_⟩
  exact ⟨25, td_lawL hL 24 0 rfl _ _ _ _ _ _ td_inv0⟩
end
