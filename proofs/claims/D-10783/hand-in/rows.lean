section
/-! bits of nI, narrowing, the pure picture -/
theorem fd_sc : ∀ n, n < 32 → ((nI n &&& 31).toBitVec.smod 32).toNat = n := by decide +kernel
theorem fd_and (a b : Nat) : nI a &&& nI b = nI (a &&& b) := by
  apply Int32.toBitVec_inj.1
  show BitVec.ofNat 32 a &&& BitVec.ofNat 32 b = BitVec.ofNat 32 (a &&& b)
  apply BitVec.eq_of_getLsbD_eq
  intro i hi
  simp [hi]
theorem fd_xor (a b : Nat) : nI a ^^^ nI b = nI (a ^^^ b) := by
  apply Int32.toBitVec_inj.1
  show BitVec.ofNat 32 a ^^^ BitVec.ofNat 32 b = BitVec.ofNat 32 (a ^^^ b)
  apply BitVec.eq_of_getLsbD_eq
  intro i hi
  simp [hi]
theorem fd_or (a b : Nat) : nI a ||| nI b = nI (a ||| b) := by
  apply Int32.toBitVec_inj.1
  show BitVec.ofNat 32 a ||| BitVec.ofNat 32 b = BitVec.ofNat 32 (a ||| b)
  apply BitVec.eq_of_getLsbD_eq
  intro i hi
  simp [hi]
theorem fd_s16 : ∀ n, n < 256 → (nI n).toInt16.toInt32 = nI n := by decide +kernel
theorem fd_shl : ∀ n, n < 8 → (1 : Int32) <<< (nI n &&& 31) = nI (2 ^ n) := by decide +kernel
theorem fd_bitv {n j : Nat} (hn : n < 2 ^ 31) (hj : j < 32) : ((nI n >>> (nI j &&& 31)) &&& 1) = nI (n.testBit j).toNat := by
  rw [pk_shrN hn _ j (fd_sc j hj)]
  show nI (n / 2 ^ j) &&& nI 1 = _
  rw [fd_and, Nat.and_one_is_mod, Nat.toNat_testBit]
theorem fd_br {x y : Int32} {A B : Prop} (n j : Nat) (hn : n < 2 ^ 31) (hj : j < 32) (f : n.testBit j = false → A) (g : n.testBit j = true → B) (hx : x = nI n := by rfl) (hy : y = nI j := by rfl) :
    (((x >>> (y &&& 31)) &&& 1) = 0 → A) ∧ (¬ ((x >>> (y &&& 31)) &&& 1) = 0 → B) := by
  rw [hx, hy, fd_bitv hn hj]
  cases hb : n.testBit j
  · exact br_t rfl (f hb)
  · exact br_f (by decide) (g hb)
theorem fd_lg : ∀ S, S < 256 → 0 < S → S.testBit (Nat.log2 S) = true ∧ Nat.log2 S < 8 ∧ ∀ j, j < 8 → Nat.log2 S < j → S.testBit j = false := by decide +kernel
/-! arrays -/
def fd_A (R : Nat → Nat) : Nat → Int32 := fun j => nI (R j)
def fd_0 : Nat → Nat := fun _ => 0
def fd_u (R : Nat → Nat) (k x : Nat) : Nat → Nat := fun j => if j = k then x else R j
theorem fd_us (R : Nat → Nat) (k x : Nat) : fd_u R k x k = x := if_pos rfl
theorem fd_un (R : Nat → Nat) {k j : Nat} (x : Nat) (h : j ≠ k) : fd_u R k x j = R j := if_neg h
theorem fd_at {R : Nat → Nat} {i : Nat} (hi : i < 2 ^ 31) : fd_A R (nI i).toNatClampNeg = nI (R i) := by
  rw [nI_clamp hi]
  rfl
theorem fd_upd {R : Nat → Nat} {i y : Nat} {x : Int32} (hi : i < 2 ^ 31) (hx : x = nI y) : upd (fd_A R) (nI i).toNatClampNeg x = fd_A (fd_u R i y) := by
  rw [nI_clamp hi, hx]
  funext j
  show (if j = i then nI y else nI (R j)) = nI (if j = i then y else R j)
  split <;> rfl
theorem fd_z : (fun _ => 0 : Nat → Int32) = fd_A fd_0 := rfl
/-! reduce -/
def fd_rd (R W : Nat → Nat) : Nat → Nat → Nat → Nat × Nat
  | 0, s, v => (s, v)
  | n + 1, s, v => if s.testBit n = true ∧ R n ≠ 0 then fd_rd R W n (s ^^^ R n) (v ^^^ W n) else fd_rd R W n s v
theorem fd_rd_t {R W : Nat → Nat} {n s v : Nat} (h : s.testBit n = true) (h2 : R n ≠ 0) : fd_rd R W (n + 1) s v = fd_rd R W n (s ^^^ R n) (v ^^^ W n) := if_pos ⟨h, h2⟩
theorem fd_rd_f {R W : Nat → Nat} {n s v : Nat} (h : s.testBit n = false) : fd_rd R W (n + 1) s v = fd_rd R W n s v := if_neg (fun z => absurd (h.symm.trans z.1) (by decide))
theorem fd_rd_z {R W : Nat → Nat} {n s v : Nat} (h : R n = 0) : fd_rd R W (n + 1) s v = fd_rd R W n s v := if_neg (fun z => z.2 h)
theorem fd_xlt {a b : Nat} (ha : a < 256) (hb : b < 256) : a ^^^ b < 256 := Nat.xor_lt_two_pow (n := 8) ha hb
theorem fd_rd_lt {R W : Nat → Nat} (hR : ∀ j, R j < 256) (hW : ∀ j, W j < 256) : ∀ n s v, s < 256 → v < 256 → (fd_rd R W n s v).1 < 256 ∧ (fd_rd R W n s v).2 < 256 := by
  intro n
  induction n with
  | zero => intro s v hs hv; exact ⟨hs, hv⟩
  | succ n ih =>
    intro s v hs hv
    cases hb : s.testBit n
    · rw [fd_rd_f hb]; exact ih s v hs hv
    · by_cases hz : R n = 0
      · rw [fd_rd_z hz]; exact ih s v hs hv
      · rw [fd_rd_t hb hz]; exact ih _ _ (fd_xlt hs (hR n)) (fd_xlt hv (hW n))
theorem fd_rd_0 {R W : Nat → Nat} : ∀ n s v, (∀ j, j < n → R j = 0) → fd_rd R W n s v = (s, v) := by
  intro n
  induction n with
  | zero => intro s v _; rfl
  | succ n ih =>
    intro s v h
    rw [fd_rd_z (h n (by omega))]
    exact ih s v (fun j hj => h j (by omega))
theorem fd_rd_1 {R W : Nat → Nat} {l : Nat} (hl : R l ≠ 0) : ∀ n s v, l < n → (∀ j, j < n → j ≠ l → R j = 0) → fd_rd R W n s v = if s.testBit l = true then (s ^^^ R l, v ^^^ W l) else (s, v) := by
  intro n
  induction n with
  | zero => intro s v h; exact absurd h (by omega)
  | succ n ih =>
    intro s v h hz
    by_cases e : n = l
    · subst e
      cases hb : s.testBit n
      · rw [fd_rd_f hb, fd_rd_0 n s v (fun j hj => hz j (by omega) (by omega))]
        rfl
      · rw [fd_rd_t hb hl, fd_rd_0 n _ _ (fun j hj => hz j (by omega) (by omega))]
        rfl
    · rw [fd_rd_z (hz n (by omega) e)]
      exact ih s v (by omega) (fun j hj hn => hz j (by omega) hn)
/-! a row taken in -/
def fd_m (i : Nat) (f g : Nat → Nat) : Nat → Nat := fun j => if j < i then f j else g j
def fd_x (R : Nat → Nat) (l s : Nat) : Nat → Nat := fun j => if (R j).testBit l = true then R j ^^^ s else R j
def fd_y (R W : Nat → Nat) (l v : Nat) : Nat → Nat := fun j => if (R j).testBit l = true then W j ^^^ v else W j
theorem fd_m_0 (f g : Nat → Nat) : fd_m 0 f g = g := funext (fun j => if_neg (by omega))
theorem fd_m_s (f g : Nat → Nat) (i : Nat) : fd_u (fd_m i f g) i (f i) = fd_m (i + 1) f g := by
  funext j
  show (if j = i then f i else if j < i then f j else g j) = if j < i + 1 then f j else g j
  by_cases e : j = i
  · rw [if_pos e, if_pos (by omega), e]
  · rw [if_neg e]
    by_cases e2 : j < i
    · rw [if_pos e2, if_pos (by omega)]
    · rw [if_neg e2, if_neg (by omega)]
theorem fd_m_k (f g : Nat → Nat) (i : Nat) (h : f i = g i) : fd_m i f g = fd_m (i + 1) f g := by
  funext j
  show (if j < i then f j else g j) = if j < i + 1 then f j else g j
  by_cases e : j = i
  · rw [if_neg (by omega), if_pos (by omega), e, h]
  · by_cases e2 : j < i
    · rw [if_pos e2, if_pos (by omega)]
    · rw [if_neg e2, if_neg (by omega)]
theorem fd_m_i (f g : Nat → Nat) (i : Nat) : fd_m i f g i = g i := if_neg (by omega)
def fd_in (R : Nat → Nat) (l s : Nat) : Nat → Nat := fd_u (fd_m 8 (fd_x R l s) R) l s
def fd_iv (R W : Nat → Nat) (l v : Nat) : Nat → Nat := fd_u (fd_m 8 (fd_y R W l v) W) l v
theorem fd_in_e (R : Nat → Nat) (l s j : Nat) (h : j ≠ l) (h8 : j < 8) : fd_in R l s j = if (R j).testBit l = true then R j ^^^ s else R j := by
  unfold fd_in
  rw [fd_un _ _ h]
  exact if_pos h8
theorem fd_in_8 (R : Nat → Nat) (l s j : Nat) (h : j ≠ l) (h8 : 8 ≤ j) : fd_in R l s j = R j := by
  unfold fd_in
  rw [fd_un _ _ h]
  exact if_neg (by omega)
theorem fd_iv_8 (R W : Nat → Nat) (l v j : Nat) (h : j ≠ l) (h8 : 8 ≤ j) : fd_iv R W l v j = W j := by
  unfold fd_iv
  rw [fd_un _ _ h]
  exact if_neg (by omega)
theorem fd_iv_e (R W : Nat → Nat) (l v j : Nat) (h : j ≠ l) (h8 : j < 8) : fd_iv R W l v j = if (R j).testBit l = true then W j ^^^ v else W j := by
  unfold fd_iv
  rw [fd_un _ _ h]
  exact if_pos h8
/-! singles and ones -/
def fd_M (R : Nat → Nat) : Nat → Nat
  | 0 => 0
  | i + 1 => fd_M R i ||| (if R i = 2 ^ i then 2 ^ i else 0)
def fd_C (R : Nat → Nat) : Nat → Nat
  | 0 => 0
  | i + 1 => fd_C R i + (if R i = 2 ^ i then 1 else 0)
theorem fd_M_lt (R : Nat → Nat) : ∀ i, fd_M R i < 2 ^ i := by
  intro i
  induction i with
  | zero => exact Nat.one_pos
  | succ i ih =>
    have h : 2 ^ i < 2 ^ (i + 1) := Nat.pow_lt_pow_right (by omega) (by omega)
    refine Nat.or_lt_two_pow (Nat.lt_trans ih h) ?_
    split
    · exact h
    · omega
theorem fd_M_b (R : Nat → Nat) : ∀ i j, (fd_M R i).testBit j = decide (j < i ∧ R j = 2 ^ j) := by
  intro i
  induction i with
  | zero =>
    intro j
    rw [decide_eq_false (by omega)]
    exact Nat.zero_testBit j
  | succ i ih =>
    intro j
    show (fd_M R i ||| (if R i = 2 ^ i then 2 ^ i else 0)).testBit j = _
    rw [Nat.testBit_or, ih j]
    by_cases e : j = i
    · subst e
      rw [decide_eq_false (by omega), Bool.false_or]
      by_cases h : R j = 2 ^ j
      · rw [if_pos h, Nat.testBit_two_pow_self, decide_eq_true ⟨by omega, h⟩]
      · rw [if_neg h, Nat.zero_testBit, decide_eq_false (fun z => h z.2)]
    · have hz : (if R i = 2 ^ i then 2 ^ i else 0).testBit j = false := by
        split
        · exact Nat.testBit_two_pow_of_ne (fun z => e z.symm)
        · exact Nat.zero_testBit j
      rw [hz, Bool.or_false]
      have q : (j < i ∧ R j = 2 ^ j) ↔ (j < i + 1 ∧ R j = 2 ^ j) := ⟨fun z => ⟨by omega, z.2⟩, fun z => ⟨by omega, z.2⟩⟩
      exact decide_eq_decide.mpr q
end
section
/-! one lemma a loop -/
theorem fd_clear {post : St2 → Prop} {p k r s v : Int32} {a1 a2 : Nat → Int32} {R W : Nat → Nat} (hR : ∀ j, 8 ≤ j → R j = 0) (hW : ∀ j, 8 ≤ j → W j = 0)
    (H : post (p, k, 0, s, v, a1, a2, fd_A fd_0, fd_A fd_0)) : wpX_clearRows post (p, k, r, s, v, a1, a2, fd_A R, fd_A W) :=
  pk_loop (σ := (Nat → Nat) × (Nat → Nat)) (fun n i q => wX_clearRows_2 post p k r s v n (nI i) a1 a2 (fd_A q.1) (fd_A q.2)) (fun i q => ∀ j, j < i ∨ 8 ≤ j → q.1 j = 0 ∧ q.2 j = 0) 8 0 (R, W) (by omega)
    (fun j hj => ⟨hR j (by omega), hW j (by omega)⟩)
    (fun n q h => pk_le 8 8 (fun _ => by
        have e1 : q.1 = fd_0 := funext (fun j => (h j (by omega)).1)
        have e2 : q.2 = fd_0 := funext (fun j => (h j (by omega)).2)
        show post (p, k, 0, s, v, a1, a2, fd_A q.1, fd_A q.2)
        rw [e1, e2]
        exact H) (fun z => absurd z (by omega)))
    (fun n i q hi h hw => pk_le 8 i (fun z => absurd z (by omega)) (fun _ => ⟨pk_in i 8 hi, nm_r (fd_upd (y := 0) (by omega) rfl) ⟨pk_in i 8 hi, nm_r (fd_upd (y := 0) (by omega) rfl) (nm_r (nI_1 i) (hw (fd_u q.1 i 0, fd_u q.2 i 0) (fun j hj => by
        by_cases e : j = i
        · subst e
          exact ⟨fd_us _ _ _, fd_us _ _ _⟩
        · have g := h j (by omega)
          exact ⟨(fd_un _ _ e).trans g.1, (fd_un _ _ e).trans g.2⟩)))⟩⟩))
theorem fd_red_l {post : St2 → Prop} {p k r : Int32} {a1 a2 : Nat → Int32} {R W : Nat → Nat} (hR : ∀ j, R j < 256) (hW : ∀ j, W j < 256) :
    ∀ i s v : Nat, i ≤ 8 → s < 256 → v < 256 → post (p, k, r, nI (fd_rd R W i s v).1, nI (fd_rd R W i s v).2, a1, a2, fd_A R, fd_A W) →
      wX_reduce_13 post p k r a1 a2 (fd_A R) (fd_A W) (i + 1) (nI i + (-1)) (nI s) (nI v) := by
  intro i
  induction i with
  | zero =>
    intro s v _ _ _ H
    exact br_t (by decide) H
  | succ i ih =>
    intro s v hi hs hv H
    rw [pk_m1]
    refine br_f (nI_pos (by omega)) (fd_br s i (by omega) (by omega) (fun hb => nm_e (ih s v (by omega) hs hv ?_)) (fun hb => ⟨pk_in i 8 (by omega), pk_eq (R i) 0 (fun hz => nm_e (ih s v (by omega) hs hv ?_)) (fun hz => ⟨pk_in i 8 (by omega), nm_r (by rw [fd_at (by omega)]; exact fd_xor s (R i)) ⟨pk_in i 8 (by omega), nm_r (by rw [fd_at (by omega)]; exact fd_xor v (W i)) (nm_e (ih _ _ (by omega) (fd_xlt hs (hR i)) (fd_xlt hv (hW i)) ?_))⟩⟩) (hx := fd_at (by omega)) (ha := Nat.lt_trans (hR i) (by omega))⟩))
    · rw [fd_rd_f hb] at H
      exact H
    · rw [fd_rd_z hz] at H
      exact H
    · rw [fd_rd_t hb hz] at H
      exact H
theorem fd_red {post : St2 → Prop} {p k r x y : Int32} {a1 a2 : Nat → Int32} {R W : Nat → Nat} {s v : Nat} (hR : ∀ j, R j < 256) (hW : ∀ j, W j < 256) (hs : s < 256) (hv : v < 256)
    (H : post (p, k, r, nI (fd_rd R W 8 s v).1, nI (fd_rd R W 8 s v).2, a1, a2, fd_A R, fd_A W)) :
    wpX_reduce post (p, k, r, x, y, a1, a2, fd_A R, fd_A W) (nI s) (nI v) := by
  unfold wpX_reduce
  dsimp only
  exact ⟨9, fd_red_l hR hW 8 s v (by omega) hs hv H⟩
theorem fd_lead_l {post : Int32 → Prop} {S l : Nat} (hS : S < 256) (h1 : S.testBit l = true) (h2 : ∀ j, j < 8 → l < j → S.testBit j = false) (H : post (nI l)) :
    ∀ i, l ≤ i → i < 8 → wX_leader_3 post (nI S) (i + 1) (nI i) := by
  intro i
  induction i with
  | zero =>
    intro hl _
    have e : l = 0 := by omega
    subst e
    exact br_t (by decide) H
  | succ i ih =>
    intro hl hi
    refine br_f (nI_nle (by omega) (by omega)) (fd_br S (i + 1) (by omega) (by omega) (fun hb => nm_r (pk_m1 i) (ih ?_ (by omega))) (fun hb => ?_))
    · by_cases e : l = i + 1
      · rw [e, hb] at h1
        exact absurd h1 (by decide)
      · omega
    · by_cases e : l = i + 1
      · rw [← e]
        exact H
      · rw [h2 (i + 1) (by omega) (by omega)] at hb
        exact absurd hb (by decide)
theorem fd_lead {post : Int32 → Prop} {S : Nat} (hS : S < 256) (h0 : 0 < S) (H : post (nI (Nat.log2 S))) : wpX_leader post () (nI S) := by
  obtain ⟨h1, h2, h3⟩ := fd_lg S hS h0
  exact Exists.intro 8 (fd_lead_l hS h1 h3 H 7 (by omega) (by omega))
theorem fd_inc_l {post : St2 → Prop} {p k r : Int32} {a1 a2 : Nat → Int32} {R W : Nat → Nat} {l s v : Nat} (hR : ∀ j, R j < 256) (hW : ∀ j, W j < 256) (hl : l < 8) (hs : s < 256) (hv : v < 256)
    (H : post (p, k, r + 1, nI s, nI v, a1, a2, fd_A (fd_in R l s), fd_A (fd_iv R W l v))) :
    ∃ n, wX_include_25 post (nI l) p k r (nI s) (nI v) n 0 a1 a2 (fd_A R) (fd_A W) := by
  have L := pk_loop (σ := Unit) (fun n i _ => wX_include_25 post (nI l) p k r (nI s) (nI v) n (nI i) a1 a2 (fd_A (fd_m i (fd_x R l s) R)) (fd_A (fd_m i (fd_y R W l v) W))) (fun _ _ => True) 8 0 () (by omega) trivial
    (fun n _ _ => pk_le 8 8 (fun _ => ⟨pk_in l 8 hl, nm_r (fd_upd (y := s) (by omega) (fd_s16 s hs)) ⟨pk_in l 8 hl, nm_r (fd_upd (y := v) (by omega) (fd_s16 v hv)) (nm_e H)⟩⟩) (fun z => absurd z (by omega)))
    (fun n i _ hi _ hw => by
      have hw' := hw () trivial
      have eR : fd_A (fd_m i (fd_x R l s) R) (nI i).toNatClampNeg = nI (R i) := by rw [fd_at (by omega), fd_m_i]
      have eW : fd_A (fd_m i (fd_y R W l v) W) (nI i).toNatClampNeg = nI (W i) := by rw [fd_at (by omega), fd_m_i]
      have bR := hR i
      have bW := hW i
      refine pk_le 8 i (fun z => absurd z (by omega)) (fun _ => ⟨pk_in i 8 hi, fd_br (R i) l (by omega) (by omega) (fun hb => nm_r (nI_1 i) ?_) (fun hb => ?_) (hx := eR)⟩)
      · have g1 : fd_x R l s i = R i := if_neg (by rw [hb]; decide)
        have g2 : fd_y R W l v i = W i := if_neg (by rw [hb]; decide)
        rw [fd_m_k _ _ i g1, fd_m_k _ _ i g2]
        exact hw'
      · have g1 : R i ^^^ s = fd_x R l s i := (if_pos hb).symm
        have g2 : W i ^^^ v = fd_y R W l v i := (if_pos hb).symm
        refine ⟨pk_in i 8 hi, pk_in i 8 hi, nm_r (e' := fd_A (fd_m (i + 1) (fd_x R l s) R)) ?_ ⟨pk_in i 8 hi, pk_in i 8 hi, nm_r (e' := fd_A (fd_m (i + 1) (fd_y R W l v) W)) ?_ (nm_r (nI_1 i) hw')⟩⟩
        · rw [eR, fd_xor, fd_s16 _ (fd_xlt bR hs), fd_upd (by omega) rfl, g1, fd_m_s]
        · rw [eW, fd_xor, fd_s16 _ (fd_xlt bW hv), fd_upd (by omega) rfl, g2, fd_m_s])
  obtain ⟨n, hn⟩ := L
  rw [fd_m_0, fd_m_0] at hn
  exact ⟨n, hn⟩
theorem fd_inc {post : St2 → Prop} {p k r x y : Int32} {a1 a2 : Nat → Int32} {R W : Nat → Nat} {s v s' v' : Nat} (hR : ∀ j, R j < 256) (hW : ∀ j, W j < 256) (hs : s < 256) (hv : v < 256) (e : fd_rd R W 8 s v = (s', v'))
    (H0 : s' = 0 → post (p, k, r, nI s', nI v', a1, a2, fd_A R, fd_A W))
    (H1 : 0 < s' → s' < 256 → v' < 256 → post (p, k, r + 1, nI s', nI v', a1, a2, fd_A (fd_in R (Nat.log2 s') s'), fd_A (fd_iv R W (Nat.log2 s') v'))) :
    wpX_include post (p, k, r, x, y, a1, a2, fd_A R, fd_A W) (nI s) (nI v) := by
  have b := fd_rd_lt hR hW 8 s v hs hv
  rw [e] at b
  obtain ⟨b1, b2⟩ := b
  dsimp only at b1 b2
  unfold wpX_include
  dsimp only
  refine fd_red hR hW hs hv ?_
  rw [e]
  dsimp only
  refine pk_eq s' 0 (fun z => H0 z) (fun z => fd_lead b1 (by omega) ?_)
  exact fd_inc_l hR hW (fd_lg s' b1 (by omega)).2.1 b1 b2 (H1 (by omega) b1 b2)
/-! build: of nothing, of the one drop -/
theorem fd_0lt : ∀ j, fd_0 j < 256 := fun _ => (by decide : 0 < 256)
def fd_B (n S x : Nat) : Nat → Nat := fun j => if n = 1 ∧ j = Nat.log2 S then x else 0
theorem fd_B_0 (S x : Nat) : fd_B 0 S x = fd_0 := funext (fun j => if_neg (fun z => absurd z.1 (by decide)))
theorem fd_B_1 (S x : Nat) : fd_B 1 S x = fd_u fd_0 (Nat.log2 S) x := by
  funext j
  show (if 1 = 1 ∧ j = Nat.log2 S then x else 0) = if j = Nat.log2 S then x else 0
  by_cases e : j = Nat.log2 S
  · rw [if_pos ⟨rfl, e⟩, if_pos e]
  · rw [if_neg (fun z => e z.2), if_neg e]
theorem fd_in_0 (l s : Nat) : fd_in fd_0 l s = fd_u fd_0 l s := by
  funext j
  by_cases e : j = l
  · subst e
    exact (fd_us _ _ _).trans (fd_us _ _ _).symm
  · rw [fd_un _ _ e]
    by_cases e8 : j < 8
    · rw [fd_in_e _ _ _ _ e e8]
      exact if_neg (by rw [show (fd_0 j).testBit l = false from Nat.zero_testBit l]; decide)
    · exact fd_in_8 _ _ _ _ e (by omega)
theorem fd_iv_0 (l v : Nat) : fd_iv fd_0 fd_0 l v = fd_u fd_0 l v := by
  funext j
  by_cases e : j = l
  · subst e
    exact (fd_us _ _ _).trans (fd_us _ _ _).symm
  · rw [fd_un _ _ e]
    by_cases e8 : j < 8
    · rw [fd_iv_e _ _ _ _ _ e e8]
      exact if_neg (by rw [show (fd_0 j).testBit l = false from Nat.zero_testBit l]; decide)
    · exact fd_iv_8 _ _ _ _ _ e (by omega)
theorem fd_skip {post : St2 → Prop} {b : Nat} (hb : b < 2) {p k r s v : Int32} {a1 a2 a3 a4 : Nat → Int32} (H : post (p, k, r, s, v, a1, a2, a3, a4)) :
    ∀ d i : Nat, i + d = 10 → (b = 0 ∨ 1 ≤ i) → wX_build_6 post (nI b) (d + 1) (nI i) p k r s v a1 a2 a3 a4 := by
  intro d
  induction d with
  | zero =>
    intro i hi _
    exact pk_le 10 i (fun _ => H) (fun z => absurd z (by omega))
  | succ d ih =>
    intro i hi h
    refine pk_le 10 i (fun z => absurd z (by omega)) (fun _ => fd_br b i (by omega) (by omega) (fun _ => nm_r (nI_1 i) (ih (i + 1) (by omega) (by omega))) (fun g => ?_))
    rcases h with h | h
    · rw [h, Nat.zero_testBit] at g
      exact absurd g (by decide)
    · have q : b.testBit i = false := Nat.testBit_lt_two_pow (Nat.lt_of_lt_of_le (show b < 2 ^ 1 from hb) (Nat.pow_le_pow_right (n := 2) (by omega) h))
      rw [q] at g
      exact absurd g (by decide)
theorem fd_build {post : St2 → Prop} {n S V : Nat} {p k r s v : Int32} {a1 a2 : Nat → Int32} {R W : Nat → Nat} (hn : n = 0 ∨ n = 1)
    (g : n = 1 → 0 < S ∧ S < 256 ∧ V < 256 ∧ a1 0 = nI S ∧ a2 0 = nI V) (hR : ∀ j, 8 ≤ j → R j = 0) (hW : ∀ j, 8 ≤ j → W j = 0)
    (H : ∀ s v, post (p, k, nI n, s, v, a1, a2, fd_A (fd_B n S S), fd_A (fd_B n S V))) : wpX_build post (p, k, r, s, v, a1, a2, fd_A R, fd_A W) (nI n) := by
  unfold wpX_build
  dsimp only
  refine fd_clear hR hW ?_
  dsimp only
  rcases hn with rfl | rfl
  · rw [fd_B_0, fd_B_0] at H
    exact ⟨11, fd_skip (by omega) (H s v) 10 0 (by omega) (Or.inl rfl)⟩
  · obtain ⟨h0, hS, hV, e1, e2⟩ := g rfl
    rw [fd_B_1, fd_B_1] at H
    refine ⟨11, br_f (by decide) (fd_br 1 0 (by omega) (by omega) (fun z => absurd z (by decide)) (fun _ => ⟨pk_in 0 10 (by omega), pk_in 0 10 (by omega), ?_⟩))⟩
    have c : (0 : Int32).toNatClampNeg = 0 := by decide
    rw [c, e1, e2]
    refine fd_inc fd_0lt fd_0lt hS hV (fd_rd_0 8 S V (fun _ _ => rfl)) (fun z => absurd z (by omega)) (fun _ _ _ => ?_)
    rw [fd_in_0, fd_iv_0]
    exact nm_r (nI_1 0) (fd_skip (by omega) (H _ _) 9 1 (by omega) (Or.inr (by omega)))
/-! singles, ones -/
theorem fd_sing {post : Int32 → Prop} {p k r s v : Int32} {a1 a2 a4 : Nat → Int32} {R : Nat → Nat} (hR : ∀ j, R j < 256) (H : post (nI (fd_M R 8))) : wpX_singles post (p, k, r, s, v, a1, a2, fd_A R, a4) :=
  pk_loop (σ := Unit) (fun n i _ => wX_singles_4 post p k r s v a1 a2 (fd_A R) a4 n (nI (fd_M R i)) (nI i)) (fun _ _ => True) 8 0 () (by omega) trivial
    (fun n _ _ => pk_le 8 8 (fun _ => H) (fun z => absurd z (by omega)))
    (fun n i _ hi _ hw => by
      have hw' := hw () trivial
      have bR := hR i
      have bp : 2 ^ i < 256 := Nat.pow_lt_pow_right (n := 8) (a := 2) (by omega) hi
      refine pk_le 8 i (fun z => absurd z (by omega)) (fun _ => ⟨pk_in i 8 hi, pk_eq (R i) (2 ^ i) (fun h => nm_r (e' := nI (fd_M R (i + 1))) ?_ (nm_r (nI_1 i) hw')) (fun h => nm_r (e' := nI (fd_M R (i + 1))) ?_ (nm_r (nI_1 i) hw')) (hx := fd_at (by omega)) (hy := fd_shl i hi)⟩)
      · rw [fd_shl i hi, fd_or]
        show _ = nI (fd_M R i ||| (if R i = 2 ^ i then 2 ^ i else 0))
        rw [if_pos h]
      · show nI (fd_M R i) ||| nI 0 = nI (fd_M R i ||| (if R i = 2 ^ i then 2 ^ i else 0))
        rw [if_neg h, fd_or])
theorem fd_ones {post : Int32 → Prop} {R : Nat → Nat} (H : post (nI (fd_C R 8))) : wpX_ones post () (nI (fd_M R 8)) :=
  pk_loop (σ := Unit) (fun n i _ => wX_ones_4 post (nI (fd_M R 8)) n (nI (fd_C R i)) (nI i)) (fun _ _ => True) 8 0 () (by omega) trivial
    (fun n _ _ => pk_le 8 8 (fun _ => H) (fun z => absurd z (by omega)))
    (fun n i _ hi _ hw => by
      have hw' := hw () trivial
      have bM : fd_M R 8 < 256 := fd_M_lt R 8
      refine pk_le 8 i (fun z => absurd z (by omega)) (fun _ => nm_r (e' := nI (fd_C R (i + 1))) ?_ (nm_r (nI_1 i) hw'))
      rw [fd_bitv (by omega) (by omega), fd_M_b, nI_add]
      show _ = nI (fd_C R i + (if R i = 2 ^ i then 1 else 0))
      by_cases h : R i = 2 ^ i
      · rw [decide_eq_true ⟨hi, h⟩, if_pos h]
        rfl
      · rw [decide_eq_false (fun z => h z.2), if_neg h]
        rfl)
end
section
/-! the plain law: how many rows are single pieces -/
theorem fd_ult {R : Nat → Nat} {k x : Nat} (h : ∀ j, R j < 256) (hx : x < 256) : ∀ j, fd_u R k x j < 256 := by
  intro j
  show (if j = k then x else R j) < 256
  split
  · exact hx
  · exact h j
theorem fd_B_lt {n S x : Nat} (h : n = 1 → x < 256) : ∀ j, fd_B n S x j < 256 := by
  intro j
  show (if n = 1 ∧ j = Nat.log2 S then x else 0) < 256
  split
  · rename_i z
    exact h z.1
  · omega
theorem fd_B_8 {n S x : Nat} (h : n = 1 → 0 < S ∧ S < 256) : ∀ j, 8 ≤ j → fd_B n S x j = 0 := by
  intro j hj
  refine if_neg (fun z => ?_)
  have q := (fd_lg S (h z.1).2 (h z.1).1).2.1
  omega
theorem fd_rd_B {n S V t v : Nat} (hn : n = 0 ∨ n = 1) (g : n = 1 → 0 < S ∧ S < 256) :
    fd_rd (fd_B n S S) (fd_B n S V) 8 t v = if n = 1 ∧ t.testBit (Nat.log2 S) = true then (t ^^^ S, v ^^^ V) else (t, v) := by
  rcases hn with rfl | rfl
  · rw [fd_B_0, fd_B_0, if_neg (fun z => absurd z.1 (by decide))]
    exact fd_rd_0 8 t v (fun _ _ => rfl)
  · obtain ⟨h0, hS⟩ := g rfl
    have q := fd_lg S hS h0
    have e1 : fd_B 1 S S (Nat.log2 S) = S := if_pos ⟨rfl, rfl⟩
    have e2 : fd_B 1 S V (Nat.log2 S) = V := if_pos ⟨rfl, rfl⟩
    rw [fd_rd_1 (R := fd_B 1 S S) (W := fd_B 1 S V) (l := Nat.log2 S) (by rw [e1]; omega) 8 t v q.2.1 (fun j _ hne => if_neg (fun z => hne z.2)), e1, e2]
    by_cases hb : t.testBit (Nat.log2 S) = true
    · rw [if_pos hb, if_pos ⟨rfl, hb⟩]
    · rw [if_neg hb, if_neg (fun z => hb z.2)]
def fd_p (x : Nat) : Nat := if x &&& (x - 1) = 0 then 1 else 0
theorem fd_p1 : ∀ x, x < 256 → ∀ i, i < 8 → x.testBit i = true → (if x = 2 ^ i then 1 else 0) = fd_p x := by decide +kernel
theorem fd_p2 {x i j : Nat} (hx : x < 256) (hi : i < 8) (hij : i ≠ j) (bi : x.testBit i = true) (bj : x.testBit j = true) : fd_p x = 0 := by
  rw [← fd_p1 x hx i hi bi]
  refine if_neg (fun z => ?_)
  rw [z, Nat.testBit_two_pow_of_ne hij] at bj
  exact absurd bj (by decide)
theorem fd_C_u {R : Nat → Nat} {k x : Nat} (h : R k = 0) : ∀ m, fd_C (fd_u R k x) m = fd_C R m + (if k < m ∧ x = 2 ^ k then 1 else 0) := by
  intro m
  induction m with
  | zero =>
    rw [if_neg (fun z => absurd z.1 (by omega))]
    rfl
  | succ m ih =>
    show fd_C (fd_u R k x) m + (if fd_u R k x m = 2 ^ m then 1 else 0) = fd_C R m + (if R m = 2 ^ m then 1 else 0) + (if k < m + 1 ∧ x = 2 ^ k then 1 else 0)
    rw [ih]
    by_cases e : m = k
    · subst e
      rw [fd_us, if_neg (show ¬ (m < m ∧ x = 2 ^ m) from fun z => absurd z.1 (by omega)), if_neg (show ¬ R m = 2 ^ m from by rw [h]; exact Nat.ne_of_lt (Nat.two_pow_pos m))]
      by_cases e2 : x = 2 ^ m
      · rw [if_pos e2, if_pos ⟨by omega, e2⟩]
      · rw [if_neg e2, if_neg (fun z => e2 z.2)]
    · rw [fd_un _ _ e]
      have q : (if k < m ∧ x = 2 ^ k then 1 else 0) = (if k < m + 1 ∧ x = 2 ^ k then 1 else 0) := by
        by_cases e2 : k < m ∧ x = 2 ^ k
        · rw [if_pos e2, if_pos ⟨by omega, e2.2⟩]
        · rw [if_neg e2, if_neg (fun z => e2 ⟨by omega, z.2⟩)]
      rw [q]
      omega
theorem fd_C_0 : ∀ m, fd_C fd_0 m = 0 := by
  intro m
  induction m with
  | zero => rfl
  | succ m ih =>
    show fd_C fd_0 m + (if fd_0 m = 2 ^ m then 1 else 0) = 0
    rw [ih, if_neg (show ¬ fd_0 m = 2 ^ m from Nat.ne_of_lt (Nat.two_pow_pos m))]
theorem fd_C_1 {S : Nat} (hS : S < 256) (h0 : 0 < S) : fd_C (fd_u fd_0 (Nat.log2 S) S) 8 = fd_p S := by
  have q := fd_lg S hS h0
  rw [fd_C_u rfl, fd_C_0, ← fd_p1 S hS _ q.2.1 q.1, Nat.zero_add]
  by_cases e : S = 2 ^ Nat.log2 S
  · rw [if_pos ⟨q.2.1, e⟩, if_pos e]
  · rw [if_neg (fun z => e z.2), if_neg e]
theorem fd_C_2 {l x i y : Nat} (hx : x < 256) (hy : y < 256) (hl : l < 8) (hi : i < 8) (hne : i ≠ l) (bx : x.testBit l = true) (by' : y.testBit i = true) : fd_C (fd_u (fd_u fd_0 l x) i y) 8 = fd_p x + fd_p y := by
  rw [fd_C_u (by rw [fd_un _ _ hne]; rfl), fd_C_u rfl, fd_C_0, ← fd_p1 x hx l hl bx, ← fd_p1 y hy i hi by', Nat.zero_add]
  have q : ∀ a b : Nat, a < 8 → (if a < 8 ∧ b = 2 ^ a then 1 else 0) = (if b = 2 ^ a then 1 else 0) := by
    intro a b ha
    by_cases e : b = 2 ^ a
    · rw [if_pos ⟨ha, e⟩, if_pos e]
    · rw [if_neg (fun z => e z.2), if_neg e]
  rw [q l x hl, q i y hi]
theorem fd_in_1 {l i S s : Nat} (hl : l < 8) (hne : i ≠ l) : fd_in (fd_u fd_0 l S) i s = fd_u (fd_u fd_0 l (if S.testBit i = true then S ^^^ s else S)) i s := by
  funext j
  by_cases e : j = i
  · subst e
    exact (fd_us _ _ _).trans (fd_us _ _ _).symm
  · rw [fd_un _ _ e]
    by_cases e2 : j = l
    · subst e2
      rw [fd_in_e _ _ _ _ e hl, fd_us, fd_us]
    · rw [fd_un _ _ e2]
      by_cases e8 : j < 8
      · rw [fd_in_e _ _ _ _ e e8, fd_un _ _ e2]
        exact if_neg (by rw [show (fd_0 j).testBit i = false from Nat.zero_testBit i]; decide)
      · rw [fd_in_8 _ _ _ _ e (by omega), fd_un _ _ e2]
theorem fd_xx (a b : Nat) : a ^^^ (b ^^^ a) = b := by rw [Nat.xor_comm b a, ← Nat.xor_assoc, Nat.xor_self, Nat.zero_xor]
theorem fd_xe {a b : Nat} (h : a ^^^ b = 0) : a = b := by
  have q : (a ^^^ b) ^^^ b = a := by rw [Nat.xor_assoc, Nat.xor_self, Nat.xor_zero]
  rw [h, Nat.zero_xor] at q
  exact q.symm
def fd_cnt (n S T : Nat) : Nat := (if n = 1 then fd_p S else 0) + (if n = 1 ∧ T = S then 0 else fd_p T) + (if n = 1 ∧ T ≠ S then fd_p (T ^^^ S) else 0)
/-- the rows with a set T more -/
theorem fd_two {n S T s : Nat} (hn : n = 0 ∨ n = 1) (g : n = 1 → 0 < S ∧ S < 256) (hT : T < 256) (h0 : 0 < T) (hs : s = if n = 1 ∧ T.testBit (Nat.log2 S) = true then T ^^^ S else T) :
    (s = 0 → fd_C (fd_B n S S) 8 = fd_cnt n S T) ∧ (0 < s → s < 256 → fd_C (fd_in (fd_B n S S) (Nat.log2 s) s) 8 = fd_cnt n S T ∧ ∀ j, fd_in (fd_B n S S) (Nat.log2 s) s j < 256) := by
  rcases hn with rfl | rfl
  · rw [if_neg (fun z => absurd z.1 (by decide))] at hs
    subst hs
    have c : fd_cnt 0 S s = fd_p s := by
      unfold fd_cnt
      rw [if_neg (by decide), if_neg (fun z => absurd z.1 (by decide)), if_neg (fun z => absurd z.1 (by decide))]
      omega
    rw [c, fd_B_0, fd_in_0]
    exact ⟨fun z => absurd z (by omega), fun _ _ => ⟨fd_C_1 hT h0, fd_ult fd_0lt hT⟩⟩
  · obtain ⟨hS0, hS⟩ := g rfl
    have qS := fd_lg S hS hS0
    obtain ⟨bl, hl, _⟩ := qS
    generalize hle : Nat.log2 S = l at *
    by_cases eTS : T = S
    · subst eTS
      rw [if_pos ⟨rfl, bl⟩, Nat.xor_self] at hs
      subst hs
      refine ⟨fun _ => ?_, fun z => absurd z (by omega)⟩
      unfold fd_cnt
      rw [if_pos rfl, if_pos ⟨rfl, rfl⟩, if_neg (fun z => z.2 rfl), fd_B_1, fd_C_1 hS hS0]
      omega
    · have c : fd_cnt 1 S T = fd_p S + fd_p T + fd_p (T ^^^ S) := by
        unfold fd_cnt
        rw [if_pos rfl, if_neg (fun z => eTS z.2), if_pos ⟨rfl, eTS⟩]
      rw [c, fd_B_1, hle]
      have sl : s.testBit l = false := by
        by_cases hb : T.testBit l = true
        · rw [hs, if_pos ⟨rfl, hb⟩, Nat.testBit_xor, hb, bl]
          rfl
        · rw [hs, if_neg (fun z => hb z.2)]
          exact Bool.eq_false_iff.mpr hb
      have sp : 0 < s := by
        by_cases hb : T.testBit l = true
        · rw [if_pos ⟨rfl, hb⟩] at hs
          rcases Nat.eq_zero_or_pos s with z | z
          · rw [z] at hs
            exact absurd (fd_xe hs.symm) eTS
          · exact z
        · rw [if_neg (fun z => hb z.2)] at hs
          omega
      refine ⟨fun z => absurd z (by omega), fun _ hs2 => ?_⟩
      have qs := fd_lg s hs2 sp
      obtain ⟨bi, hi, _⟩ := qs
      generalize Nat.log2 s = i at *
      have hne : i ≠ l := by
        intro z
        rw [z, sl] at bi
        exact absurd bi (by decide)
      rw [fd_in_1 hl hne]
      have x1 : (if S.testBit i = true then S ^^^ s else S) < 256 := by
        split
        · exact fd_xlt hS hs2
        · exact hS
      have x2 : (if S.testBit i = true then S ^^^ s else S).testBit l = true := by
        split
        · rw [Nat.testBit_xor, bl, sl]
          rfl
        · exact bl
      refine ⟨?_, fd_ult (fd_ult fd_0lt x1) hs2⟩
      rw [fd_C_2 x1 hs2 hl hi hne x2 bi]
      by_cases hb : T.testBit l = true
      · rw [if_pos ⟨rfl, hb⟩] at hs
        rw [hs]
        by_cases hc : S.testBit i = true
        · rw [if_pos hc, fd_xx S T, fd_p2 hS hl hne.symm bl hc]
          omega
        · have hc' := Bool.eq_false_iff.mpr hc
          have ti : T.testBit i = true := by
            rw [hs, Nat.testBit_xor, hc'] at bi
            cases hq : T.testBit i
            · rw [hq] at bi; exact absurd bi (by decide)
            · rfl
          rw [if_neg hc, fd_p2 hT hl hne.symm hb ti]
          omega
      · rw [if_neg (fun z => hb z.2)] at hs
        have hb' := Bool.eq_false_iff.mpr hb
        rw [hs]
        rw [hs] at bi
        by_cases hc : S.testBit i = true
        · rw [if_pos hc, fd_p2 hS hl hne.symm bl hc, Nat.xor_comm S T]
          omega
        · have hc' := Bool.eq_false_iff.mpr hc
          have p0 : fd_p (T ^^^ S) = 0 := fd_p2 (fd_xlt hT hS) hl hne.symm (by rw [Nat.testBit_xor, hb', bl]; rfl) (by rw [Nat.testBit_xor, bi, hc']; rfl)
          rw [if_neg hc, p0]
          omega
end
section
/-! the object: nothing kept (n = 0), or the one drop (S, V) kept (n = 1) -/
def fd_G (n S V : Nat) (a1 a2 : Nat → Int32) : Prop := n = 1 → 0 < S ∧ S < 256 ∧ V < 256 ∧ a1 0 = nI S ∧ a2 0 = nI V
def fd_K (n S V : Nat) (u : St2) : Prop := (n = 0 ∨ n = 1) ∧ ∃ (k : Nat) (r s v : Int32) (a1 a2 : Nat → Int32) (R W : Nat → Nat),
  u = (nI n, nI k, r, s, v, a1, a2, fd_A R, fd_A W) ∧ fd_G n S V a1 a2 ∧ (∀ j, 8 ≤ j → R j = 0) ∧ (∀ j, 8 ≤ j → W j = 0) ∧ (k = 0 ∨ (k = 1 ∧ r = nI n ∧ R = fd_B n S S ∧ W = fd_B n S V))
theorem fd_Kb {n S V : Nat} {s v : Int32} {a1 a2 : Nat → Int32} (hn : n = 0 ∨ n = 1) (g : fd_G n S V a1 a2) : fd_K n S V (nI n, nI 1, nI n, s, v, a1, a2, fd_A (fd_B n S S), fd_A (fd_B n S V)) :=
  ⟨hn, 1, nI n, s, v, a1, a2, _, _, rfl, g, fd_B_8 (fun z => ⟨(g z).1, (g z).2.1⟩), fd_B_8 (fun z => ⟨(g z).1, (g z).2.1⟩), Or.inr ⟨rfl, rfl, rfl, rfl⟩⟩
theorem fd_learn {post : St2 → Prop} {n S V : Nat} {u : St2} (h : fd_K n S V u)
    (H : (n = 0 ∨ n = 1) → ∀ s v a1 a2, fd_G n S V a1 a2 → post (nI n, nI 1, nI n, s, v, a1, a2, fd_A (fd_B n S S), fd_A (fd_B n S V))) : wpX_learn post u := by
  obtain ⟨hn, k, r, s, v, a1, a2, R, W, rfl, g, hR, hW, hk⟩ := h
  rcases hk with rfl | ⟨rfl, rfl, rfl, rfl⟩
  · exact br_t rfl (fd_build (S := S) (V := V) hn g hR hW (fun s v => H hn s v a1 a2 g))
  · exact br_f (by decide) (H hn s v a1 a2 g)
/-! sum -/
theorem fd_sum {post : Int32 → St2 → Prop} {n S V : Nat} {u : St2} (h : fd_K n S V u) (t : Int32)
    (H : ∀ r u', fd_K n S V u' → (t = 0 → r = 0) → (¬ t = 0 → n = 1 → t = nI S → r = nI V) → (¬ t = 0 → ¬ (n = 1 ∧ t = nI S) → r = -1) → post r u') : wpX_sum post u t := by
  have gS : n = 1 → S < 256 ∧ 0 < S := by
    obtain ⟨_, k, r, s, v, a1, a2, R, W, _, g, _⟩ := h
    exact fun z => ⟨(g z).2.1, (g z).1⟩
  have far : (t < 0 ∨ ¬ t ≤ 255) → post (-1) u := by
    intro z
    have n0 : ¬ t = 0 := by
      intro e
      rw [e] at z
      rcases z with z | z
      · exact absurd z (by decide)
      · exact z (by decide)
    have n1 : ¬ (n = 1 ∧ t = nI S) := by
      intro e
      have b := gS e.1
      rw [e.2] at z
      rcases z with z | z
      · exact nI_pos (by omega) z
      · exact z (nI_le (b := 255) (by omega) (by omega))
    exact H (-1) u h (fun e => absurd e n0) (fun _ e1 e2 => absurd ⟨e1, e2⟩ n1) (fun _ _ => rfl)
  by_cases c1 : t < 0
  · obtain ⟨hn, k, r, s, v, a1, a2, R, W, rfl, g, hR, hW, hk⟩ := h
    exact br_t c1 (far (Or.inl c1))
  · by_cases c2 : t ≤ 255
    · obtain ⟨T, hT, rfl⟩ := nI_of2 (M := 255) (n := 255) (by decide) c1 c2
      have step : wpX_learn (fun u => match u with | (f0_present_4, f0_known_5, f0_rank_6, f0_leftSet_7, f0_leftValue_8, am141_11, am142_14, am143_17, am144_20) => (wpX_reduce (fun u => match u with | (f0_present_22, f0_known_23, f0_rank_24, f0_leftSet_25, f0_leftValue_26, am201_29, am202_32, am203_35, am204_38) => (((f0_leftSet_25 = 0 → (post f0_leftValue_26 (f0_present_22, f0_known_23, f0_rank_24, f0_leftSet_25, f0_leftValue_26, am201_29, am202_32, am203_35, am204_38))) ∧ (¬ f0_leftSet_25 = 0 → (post (-1) (f0_present_22, f0_known_23, f0_rank_24, f0_leftSet_25, f0_leftValue_26, am201_29, am202_32, am203_35, am204_38)))))) (f0_present_4, f0_known_5, f0_rank_6, f0_leftSet_7, f0_leftValue_8, am141_11, am142_14, am143_17, am144_20) (nI T) 0)) u := by
        refine fd_learn h (fun hn s v a1 a2 g => ?_)
        refine fd_red (v := 0) (fd_B_lt (fun z => (g z).2.1)) (fd_B_lt (fun z => (g z).2.2.1)) (by omega) (by omega) ?_
        rw [fd_rd_B hn (fun z => ⟨(g z).1, (g z).2.1⟩)]
        by_cases c : n = 1 ∧ T.testBit (Nat.log2 S) = true
        · rw [if_pos c, Nat.zero_xor]
          have b := gS c.1
          have bx : T ^^^ S < 256 := fd_xlt (by omega) b.1
          have t0 : ¬ nI T = 0 := by
            intro e
            have e' : T = 0 := (nI_eq (by omega) (by omega)).mp e
            rw [e', Nat.zero_testBit] at c
            exact absurd c.2 (by decide)
          refine pk_eq (T ^^^ S) 0 (fun z => H _ _ (fd_Kb hn g) (fun e => absurd e t0) (fun _ _ _ => rfl) (fun _ e => absurd ⟨c.1, by rw [fd_xe z]⟩ e)) (fun z => H _ _ (fd_Kb hn g) (fun e => absurd e t0) (fun _ _ e => ?_) (fun _ _ => rfl))
          have e' : T = S := (nI_eq (by omega) (by omega)).mp e
          exact absurd (by rw [e', Nat.xor_self]) z
        · rw [if_neg c]
          refine pk_eq T 0 (fun z => H _ _ (fd_Kb hn g) (fun _ => rfl) (fun e => absurd (by rw [z]; rfl) e) (fun e => absurd (by rw [z]; rfl) e)) (fun z => H _ _ (fd_Kb hn g) (fun e => absurd ((nI_eq (a := T) (b := 0) (by omega) (by omega)).mp e) z) (fun _ e1 e2 => ?_) (fun _ _ => rfl))
          have b := gS e1
          have e' : T = S := (nI_eq (by omega) (by omega)).mp e2
          rw [e'] at c
          exact absurd ⟨e1, (fd_lg S b.1 b.2).1⟩ c
      obtain ⟨p, k, r, s, v, a1, a2, a3, a4⟩ := u
      exact br_f c1 (br_t c2 step)
    · obtain ⟨hn, k, r, s, v, a1, a2, R, W, rfl, g, hR, hW, hk⟩ := h
      exact br_f c1 (br_f c2 (far (Or.inr c2)))
/-! possible -/
theorem fd_poss {post : Int32 → St2 → Prop} {n S V : Nat} {u : St2} (h : fd_K n S V u) (i w : Int32)
    (H0 : ∀ u', fd_K n S V u' → (i < 0 ∨ 7 < i ∨ w < 0 ∨ 255 < w ∨ (n = 1 ∧ nI S = (1 : Int32) <<< (i &&& 31) ∧ ¬ w = nI V)) → post 0 u')
    (H1 : ∀ u', fd_K n S V u' → ¬ i < 0 → ¬ 7 < i → ¬ w < 0 → ¬ 255 < w → (¬ (n = 1 ∧ nI S = (1 : Int32) <<< (i &&& 31)) ∨ w = nI V) → post 1 u') : wpX_possible post u i w := by
  have hu := h
  obtain ⟨p, k, r, s, v, a1, a2, a3, a4⟩ := u
  unfold wpX_possible
  dsimp only
  refine br_c (fun c => H0 _ h (Or.inl c)) (fun c1 => br_c (fun c => H0 _ h (Or.inr (Or.inl ?_))) (fun c2 => br_c (fun c => H0 _ h (Or.inr (Or.inr (Or.inl c)))) (fun c3 => br_c (fun c4 => ?_) (fun c => H0 _ h (Or.inr (Or.inr (Or.inr (Or.inl ?_))))))))
  · rw [Int32.lt_iff_toInt_lt]
    rw [Int32.le_iff_toInt_le] at c
    have e7 : (7 : Int32).toInt = 7 := by decide
    have e8 : (8 : Int32).toInt = 8 := by decide
    omega
  · have e7 : (7 : Int32).toInt = 7 := by decide
    have e8 : (8 : Int32).toInt = 8 := by decide
    have c2' : ¬ 7 < i := by
      rw [Int32.lt_iff_toInt_lt]
      rw [Int32.le_iff_toInt_le] at c2
      omega
    have c4' : ¬ 255 < w := by
      rw [Int32.lt_iff_toInt_lt]
      rw [Int32.le_iff_toInt_le] at c4
      omega
    have c5 : i < 8 := by
      rw [Int32.lt_iff_toInt_lt]
      rw [Int32.le_iff_toInt_le] at c2
      omega
    have c6 : i ≤ 7 := by
      rw [Int32.le_iff_toInt_le]
      rw [Int32.le_iff_toInt_le] at c2
      omega
    obtain ⟨j, hj, rfl⟩ := nI_of2 (M := 7) (n := 7) (by decide) c1 c6
    unfold wpX_piece
    dsimp only
    refine br_f c1 (br_t c5 ?_)
    refine fd_learn h (fun hn s v a1 a2 g => ?_)
    dsimp only
    have bp : 2 ^ j < 256 := Nat.pow_lt_pow_right (n := 8) (a := 2) (by omega) (by omega)
    have bB := fd_B_lt (n := n) (S := S) (fun z => (g z).2.1) j
    have bW := fd_B_lt (n := n) (S := S) (fun z => (g z).2.2.1) j
    have hp : ∀ n S : Nat, 0 < 2 ^ j → fd_B n S S j = 2 ^ j → n = 1 ∧ j = Nat.log2 S := by
      intro n S q z
      by_cases e : n = 1 ∧ j = Nat.log2 S
      · exact e
      · rw [show fd_B n S S j = 0 from if_neg e] at z
        omega
    have pp : 0 < 2 ^ j := Nat.two_pow_pos j
    refine ⟨pk_in j 8 (by omega), pk_eq (fd_B n S S j) (2 ^ j) (fun z => ⟨pk_in j 8 (by omega), ?_⟩) (fun z => ?_) (hx := fd_at (by omega)) (hy := fd_shl j (by omega))⟩
    · obtain ⟨z1, z2⟩ := hp n S pp z
      have eS : S = 2 ^ j := by
        rw [← z]
        exact (if_pos ⟨z1, z2⟩).symm
      have eV : fd_A (fd_B n S V) (nI j).toNatClampNeg = nI V := by
        rw [fd_at (by omega)]
        exact congrArg nI (if_pos ⟨z1, z2⟩)
      have bV := (g z1).2.2.1
      rw [eV]
      refine br_f (nI_pos (by omega)) (br_c (fun q => ?_) (fun q => ?_))
      · exact H1 _ (fd_Kb hn g) c1 c2' c3 c4' (Or.inr q.symm)
      · exact H0 _ (fd_Kb hn g) (Or.inr (Or.inr (Or.inr (Or.inr ⟨z1, by rw [fd_shl j (by omega), eS], fun e => q e.symm⟩))))
    · refine br_t (by decide) (H1 _ (fd_Kb hn g) c1 c2' c3 c4' (Or.inl (fun e => z ?_)))
      have b := (g e.1).2.1
      have e2 := e.2
      rw [fd_shl j (by omega)] at e2
      have eS : S = 2 ^ j := (nI_eq (by omega) (by omega)).mp e2
      have el : j = Nat.log2 S := by rw [eS, Nat.log2_two_pow]
      rw [show fd_B n S S j = S from if_pos ⟨e.1, el⟩, eS]
  · rw [Int32.lt_iff_toInt_lt]
    rw [Int32.le_iff_toInt_le] at c
    omega
/-! knownWith -/
theorem fd_with {post : Int32 → St2 → Prop} {n S V : Nat} {u : St2} (h : fd_K n S V u) (t : Int32)
    (H0 : ∀ u', fd_K n S V u' → (t < 1 ∨ 255 < t) → post (-1) u')
    (H1 : ∀ u' T, fd_K n S V u' → t = nI T → 0 < T → T < 256 → ¬ t < 1 → ¬ 255 < t → post (nI (fd_cnt n S T)) u') : wpX_knownWith post u t := by
  obtain ⟨p, k, r, s, v, a1, a2, a3, a4⟩ := u
  unfold wpX_knownWith
  dsimp only
  refine br_c (fun c => br_t rfl (H0 _ h (Or.inl c))) (fun c1 => br_c (fun c => br_t rfl (H0 _ h (Or.inr c))) (fun c2 => br_f (by decide) ?_))
  have e1 : (1 : Int32).toInt = 1 := by decide
  have e0 : (0 : Int32).toInt = 0 := by decide
  have d1 : ¬ t < 0 := by
    rw [Int32.lt_iff_toInt_lt] at c1 ⊢
    omega
  have d2 : t ≤ 255 := by
    rw [Int32.lt_iff_toInt_lt] at c2
    rw [Int32.le_iff_toInt_le]
    omega
  obtain ⟨T, hT, rfl⟩ := nI_of2 (M := 255) (n := 255) (by decide) d1 d2
  have T0 : 0 < T := by
    rcases Nat.eq_zero_or_pos T with z | z
    · rw [z] at c1
      exact absurd (by decide) c1
    · exact z
  obtain ⟨hn, k', r', s', v', b1, b2, R, W, eu, g, hR, hW, hk⟩ := h
  cases eu
  unfold wpX_countWith
  dsimp only
  refine fd_build (S := S) (V := V) hn g hR hW (fun s v => ?_)
  dsimp only
  have gS : n = 1 → 0 < S ∧ S < 256 := fun z => ⟨(g z).1, (g z).2.1⟩
  generalize hq : fd_rd (fd_B n S S) (fd_B n S V) 8 T 0 = q
  obtain ⟨s2, v2⟩ := q
  have hs : s2 = if n = 1 ∧ T.testBit (Nat.log2 S) = true then T ^^^ S else T := by
    rw [fd_rd_B hn gS] at hq
    by_cases c : n = 1 ∧ T.testBit (Nat.log2 S) = true
    · rw [if_pos c] at hq ⊢
      exact (congrArg Prod.fst hq).symm
    · rw [if_neg c] at hq ⊢
      exact (congrArg Prod.fst hq).symm
  obtain ⟨t0, t1⟩ := fd_two hn gS (by omega) T0 hs
  refine fd_inc (v := 0) (fd_B_lt (fun z => (g z).2.1)) (fd_B_lt (fun z => (g z).2.2.1)) (by omega) (by omega) hq (fun z => ?_) (fun z1 z2 z3 => ?_)
  · dsimp only
    refine fd_sing (fd_B_lt (fun z => (g z).2.1)) (fd_ones ?_)
    rw [t0 z]
    exact H1 _ T ⟨hn, 0, _, _, _, _, _, _, _, rfl, g, fd_B_8 gS, fd_B_8 gS, Or.inl rfl⟩ rfl T0 (by omega) c1 c2
  · dsimp only
    obtain ⟨y1, y2⟩ := t1 z1 z2
    refine fd_sing y2 (fd_ones ?_)
    rw [y1]
    have hl := (fd_lg s2 z2 z1).2.1
    exact H1 _ T ⟨hn, 0, _, _, _, _, _, _, _, rfl, g, fun j hj => (fd_in_8 _ _ _ _ (by omega) hj).trans (fd_B_8 gS j hj), fun j hj => (fd_iv_8 _ _ _ _ _ (by omega) hj).trans (fd_B_8 gS j hj), Or.inl rfl⟩ rfl T0 (by omega) c1 c2
/-! missing, idle -/
theorem fd_miss {post : Int32 → St2 → Prop} {n S V : Nat} {u : St2} (h : fd_K n S V u) (H : ∀ u', fd_K n S V u' → post (nI (8 - n)) u') : wpX_missing post u := by
  have hn := h.1
  have e : (8 : Int32) - nI n = nI (8 - n) := pk_sub (a := 8) (b := n) (by omega)
  obtain ⟨p, k, r, s, v, a1, a2, a3, a4⟩ := u
  unfold wpX_missing
  dsimp only
  refine fd_learn h (fun hn s v a1 a2 g => ?_)
  dsimp only
  rw [e]
  exact H _ (fd_Kb hn g)
theorem fd_idle {post : Int32 → St2 → Prop} {n S V : Nat} {u : St2} (h : fd_K n S V u) (H : ∀ u', post 0 u') : wpX_idle post u 0 := by
  obtain ⟨hn, k, r, s, v, a1, a2, R, W, rfl, g, hR, hW, hk⟩ := h
  unfold wpX_idle
  dsimp only
  refine br_f (by decide) (br_f (by decide) ?_)
  rcases hn with rfl | rfl
  · exact br_t (by decide) (br_t rfl (H _))
  · refine br_f (by decide) (br_f (by decide) ?_)
    have gS : 1 = 1 → 0 < S ∧ S < 256 := fun z => ⟨(g z).1, (g z).2.1⟩
    have x1 : nI 1 &&& nI 1 = nI 1 := by decide
    have x2 : (nI 1 &&& ((1 : Int32) <<< ((0 : Int32) &&& 31) ^^^ (-1))) &&& nI 1 = nI 0 := by decide
    unfold wpX_enough
    dsimp only
    unfold wpX_rankOf
    dsimp only
    rw [x1]
    refine fd_build (S := S) (V := V) (Or.inr rfl) g hR hW (fun s v => ?_)
    dsimp only
    rw [x2]
    refine fd_build (n := 0) (S := S) (V := V) (Or.inl rfl) (fun z => absurd z (by decide)) (fd_B_8 gS) (fd_B_8 gS) (fun s v => ?_)
    dsimp only
    exact br_f (by decide) (br_t rfl (H _))
/-! take, the first call -/
theorem fd_take {post : Int32 → St2 → Prop} (set value : Int32)
    (H0 : (set < 1 ∨ 255 < set ∨ value < 0 ∨ 255 < value) → ∀ u', fd_K 0 0 0 u' → post (-1) u')
    (H1 : ∀ S V, 0 < S → S < 256 → V < 256 → set = nI S → value = nI V → ¬ set < 1 → ¬ 255 < set → ¬ value < 0 → ¬ 255 < value → ∀ u', fd_K 1 S V u' → post 0 u') :
    wpX_take post (0, 0, 0, 0, 0, (fun _ => 0), (fun _ => 0), (fun _ => 0), (fun _ => 0)) set value := by
  have k0 : fd_K 0 0 0 (0, 0, 0, 0, 0, (fun _ => 0), (fun _ => 0), fd_A fd_0, fd_A fd_0) :=
    ⟨Or.inl rfl, 0, 0, 0, 0, _, _, fd_0, fd_0, rfl, fun z => absurd z (by decide), fun _ _ => rfl, fun _ _ => rfl, Or.inl rfl⟩
  show wpX_take post (0, 0, 0, 0, 0, (fun _ => 0), (fun _ => 0), fd_A fd_0, fd_A fd_0) set value
  unfold wpX_take
  dsimp only
  refine br_c (fun c => br_t rfl (H0 (Or.inl c) _ k0)) (fun c1 => br_c (fun c => br_t rfl (H0 (Or.inr (Or.inl c)) _ k0)) (fun c2 => br_f (by decide) (br_c (fun c => H0 (Or.inr (Or.inr (Or.inl c))) _ k0) (fun c3 => br_c (fun c4 => ?_) (fun c => H0 (Or.inr (Or.inr (Or.inr ?_))) _ k0)))))
  · have e1 : (1 : Int32).toInt = 1 := by decide
    have e0 : (0 : Int32).toInt = 0 := by decide
    have d1 : ¬ set < 0 := by
      rw [Int32.lt_iff_toInt_lt] at c1 ⊢
      omega
    have d2 : set ≤ 255 := by
      rw [Int32.lt_iff_toInt_lt] at c2
      rw [Int32.le_iff_toInt_le]
      omega
    have d4 : ¬ 255 < value := by
      rw [Int32.le_iff_toInt_le] at c4
      rw [Int32.lt_iff_toInt_lt]
      omega
    obtain ⟨S, hS, rfl⟩ := nI_of2 (M := 255) (n := 255) (by decide) d1 d2
    obtain ⟨V, hV, rfl⟩ := nI_of2 (M := 255) (n := 255) (by decide) c3 c4
    have S0 : 0 < S := by
      rcases Nat.eq_zero_or_pos S with z | z
      · rw [z] at c1
        exact absurd (by decide) c1
      · exact z
    refine ⟨1, br_f (by decide) (br_f (by decide) (br_f (by decide) (br_t (by decide) (br_t rfl ?_))))⟩
    unfold wX_take_42
    refine br_f (by decide) (fd_learn k0 (fun hn s v a1 a2 g => ?_))
    dsimp only
    rw [fd_B_0]
    refine fd_red fd_0lt fd_0lt (by omega) (by omega) ?_
    rw [fd_rd_0 (R := fd_0) (W := fd_0) 8 S V (fun _ _ => rfl)]
    dsimp only
    refine br_f (nI_ne0 (by omega) (by omega)) ?_
    have c : (0 : Int32).toNatClampNeg = 0 := by decide
    refine nm_r (e' := nI 1) (by decide) ⟨pk_in 0 10 (by omega), nm_r (e' := upd a1 0 (nI S)) (by rw [c, fd_s16 S (by omega)]) ⟨pk_in 0 10 (by omega), nm_r (e' := upd a2 0 (nI V)) (by rw [c, fd_s16 V (by omega)]) ?_⟩⟩
    refine fd_inc fd_0lt fd_0lt (by omega) (by omega) (fd_rd_0 8 S V (fun _ _ => rfl)) (fun z => absurd z (by omega)) (fun _ _ _ => ?_)
    dsimp only
    rw [fd_in_0, fd_iv_0, ← fd_B_1, ← fd_B_1]
    refine H1 S V S0 (by omega) (by omega) rfl rfl c1 c2 c3 d4 _ ?_
    exact fd_Kb (Or.inr rfl) (fun _ => ⟨S0, by omega, by omega, pk_us, pk_us⟩)
  · rw [Int32.le_iff_toInt_le] at c
    rw [Int32.lt_iff_toInt_lt]
    omega
end
section
/-! the law's ladder: one lemma a join (printed by ladder.py) -/
theorem fd_L88 {post : Int32 → St0 → Prop} {mc ms kc ks : Nat} {x0 x1 x2 x3 x4 x6 x7 x8 x9 x10 x11 z0 : Int32}
    (h : ∀ y : Int32, (¬ y = 0 ↔ (¬ z0 = 0 ∧ (x0 &&& (x0 - 1)) = 0)) → wL_lawOf_108 post mc ms x0 x1 x2 x3 x4 x6 x7 x8 x9 x10 x11 z0 y kc ks)
    : wL_lawOf_88 post mc ms x0 x1 x2 x3 x4 x6 x7 x8 x9 x10 x11 z0 kc ks :=
  br_c (fun c => (h 0 ⟨fun z => absurd rfl z, fun z => absurd c z.1⟩)) (fun c => br_c (fun d => (h 1 ⟨fun _ => ⟨c, d⟩, fun _ => by decide⟩)) (fun d => (h 0 ⟨fun z => absurd rfl z, fun z => absurd z.2 d⟩)))
theorem fd_L108 {post : Int32 → St0 → Prop} {mc ms kc ks : Nat} {x0 x1 x2 x3 x4 x6 x7 x8 x9 x10 x11 x12 z0 : Int32}
    (h : ∀ y : Int32, (¬ y = 0 ↔ (¬ x4 < 1 ∧ ¬ 255 < x4)) → wL_lawOf_129 post mc ms x0 x1 x2 x3 x4 x6 x7 x8 x9 x10 x11 x12 z0 y kc ks)
    : wL_lawOf_108 post mc ms x0 x1 x2 x3 x4 x6 x7 x8 x9 x10 x11 x12 z0 kc ks :=
  br_c (fun c => (h 0 ⟨fun z => absurd rfl z, fun z => absurd c z.1⟩)) (fun c => br_c (fun d => (h 0 ⟨fun z => absurd rfl z, fun z => absurd d z.2⟩)) (fun d => (h 1 ⟨fun _ => ⟨c, d⟩, fun _ => by decide⟩)))
theorem fd_L129 {post : Int32 → St0 → Prop} {mc ms kc ks : Nat} {x0 x1 x2 x3 x4 x6 x7 x8 x9 x10 x11 x12 x13 z0 : Int32}
    (h : ∀ y : Int32, (¬ y = 0 ↔ (¬ x2 < 0 ∧ ¬ 7 < x2)) → wL_lawOf_146 post mc ms x0 x1 x2 x3 x4 x6 x7 x8 x9 x10 x11 x12 x13 z0 y kc ks)
    : wL_lawOf_129 post mc ms x0 x1 x2 x3 x4 x6 x7 x8 x9 x10 x11 x12 x13 z0 kc ks :=
  br_c (fun c => (h 0 ⟨fun z => absurd rfl z, fun z => absurd c z.1⟩)) (fun c => br_c (fun d => (h 0 ⟨fun z => absurd rfl z, fun z => absurd d z.2⟩)) (fun d => (h 1 ⟨fun _ => ⟨c, d⟩, fun _ => by decide⟩)))
theorem fd_L146 {post : Int32 → St0 → Prop} {mc ms kc ks : Nat} {x0 x1 x2 x3 x4 x6 x7 x8 x9 x10 x11 x12 x13 x14 z0 : Int32}
    (h : ∀ y : Int32, (¬ y = 0 ↔ (¬ z0 = 0 ∧ ¬ x13 = 0 ∧ x0 = ((1 : Int32) <<< (x2 &&& 31)))) → wL_lawOf_170 post mc ms x0 x1 x3 x4 x6 x7 x8 x9 x10 x11 x12 x13 x14 z0 y kc ks)
    : wL_lawOf_146 post mc ms x0 x1 x2 x3 x4 x6 x7 x8 x9 x10 x11 x12 x13 x14 z0 kc ks :=
  br_c (fun c => (h 0 ⟨fun z => absurd rfl z, fun z => absurd c z.1⟩)) (fun c => br_c (fun d => (h 0 ⟨fun z => absurd rfl z, fun z => absurd d z.2.1⟩)) (fun d => br_c (fun e => (h 1 ⟨fun _ => ⟨c, d, e⟩, fun _ => by decide⟩)) (fun e => (h 0 ⟨fun z => absurd rfl z, fun z => absurd z.2.2 e⟩))))
theorem fd_L170 {post : Int32 → St0 → Prop} {mc ms kc ks : Nat} {x0 x1 x3 x4 x6 x7 x8 x9 x10 x11 x12 x13 x14 x15 z0 : Int32}
    (h : ∀ y : Int32, ((¬ x12 = 0 ∧ ¬ x14 = 0 ∧ ¬ x4 = x0) → y = x4 ^^^ x0) → (¬ (¬ x12 = 0 ∧ ¬ x14 = 0 ∧ ¬ x4 = x0) → y = 0) → wL_lawOf_196 post mc ms x0 x1 x3 x4 x6 x7 x8 x9 x10 x11 x12 x13 x14 x15 z0 y kc ks)
    : wL_lawOf_170 post mc ms x0 x1 x3 x4 x6 x7 x8 x9 x10 x11 x12 x13 x14 x15 z0 kc ks :=
  br_c (fun c => h 0 (fun z => absurd c z.1) (fun _ => rfl)) (fun c => br_c (fun d => h 0 (fun z => absurd d z.2.1) (fun _ => rfl)) (fun d => br_c (fun e => h 0 (fun z => absurd e z.2.2) (fun _ => rfl)) (fun e => h (x4 ^^^ x0) (fun _ => rfl) (fun z => absurd ⟨c, d, e⟩ z))))
theorem fd_L196 {post : Int32 → St0 → Prop} {mc ms kc ks : Nat} {x0 x1 x3 x4 x6 x7 x8 x9 x10 x11 x12 x13 x14 x15 x16 z0 : Int32}
    (h : ∀ y : Int32, (¬ y = 0 ↔ (¬ x14 = 0 ∧ (x4 &&& (x4 - 1)) = 0)) → wL_lawOf_218 post mc ms x0 x1 x3 x4 x6 x7 x8 x9 x10 x11 x12 x13 x14 x15 x16 z0 y kc ks)
    : wL_lawOf_196 post mc ms x0 x1 x3 x4 x6 x7 x8 x9 x10 x11 x12 x13 x14 x15 x16 z0 kc ks :=
  br_c (fun c => (h 0 ⟨fun z => absurd rfl z, fun z => absurd c z.1⟩)) (fun c => br_c (fun d => (h 1 ⟨fun _ => ⟨c, d⟩, fun _ => by decide⟩)) (fun d => (h 0 ⟨fun z => absurd rfl z, fun z => absurd z.2 d⟩)))
theorem fd_L218 {post : Int32 → St0 → Prop} {mc ms kc ks : Nat} {x0 x1 x3 x4 x6 x7 x8 x9 x10 x11 x12 x13 x14 x15 x16 x17 z0 : Int32}
    (h : ∀ y : Int32, (¬ y = 0 ↔ (¬ x17 = 0 ∧ (x17 &&& (x17 - 1)) = 0)) → wL_lawOf_240 post mc ms x0 x1 x3 x4 x6 x7 x8 x9 x10 x11 x12 x13 x14 x15 x16 z0 y kc ks)
    : wL_lawOf_218 post mc ms x0 x1 x3 x4 x6 x7 x8 x9 x10 x11 x12 x13 x14 x15 x16 x17 z0 kc ks :=
  br_c (fun c => (h 0 ⟨fun z => absurd rfl z, fun z => absurd c z.1⟩)) (fun c => br_c (fun d => (h 1 ⟨fun _ => ⟨c, d⟩, fun _ => by decide⟩)) (fun d => (h 0 ⟨fun z => absurd rfl z, fun z => absurd z.2 d⟩)))
theorem fd_L240 {post : Int32 → St0 → Prop} {mc ms kc ks : Nat} {x0 x1 x3 x4 x6 x7 x8 x9 x10 x11 x12 x13 x14 x15 x16 x18 z0 : Int32}
    (h : ∀ y : Int32, (x13 = 0 → y = 0) → (¬ x13 = 0 → y = 1) → wL_lawOf_252 post mc ms x0 x1 x3 x4 x6 x7 x8 x9 x10 x11 x12 x14 x15 x16 x18 z0 y kc ks)
    : wL_lawOf_240 post mc ms x0 x1 x3 x4 x6 x7 x8 x9 x10 x11 x12 x13 x14 x15 x16 x18 z0 kc ks :=
  br_c (fun c => h 0 (fun _ => rfl) (fun z => absurd c z)) (fun c => h 1 (fun z => absurd z c) (fun _ => rfl))
theorem fd_L252 {post : Int32 → St0 → Prop} {mc ms kc ks : Nat} {x0 x1 x3 x4 x6 x7 x8 x9 x10 x11 x12 x14 x15 x16 x18 x19 z0 : Int32}
    (h : ∀ y : Int32, ((¬ x18 = 0 ∧ ¬ (¬ x12 = 0 ∧ x4 = x0)) → y = 1) → (¬ (¬ x18 = 0 ∧ ¬ (¬ x12 = 0 ∧ x4 = x0)) → y = 0) → wL_lawOf_273 post mc ms x0 x1 x3 x4 x6 x7 x8 x9 x10 x11 x12 x14 x15 x16 x19 y z0 kc ks)
    : wL_lawOf_252 post mc ms x0 x1 x3 x4 x6 x7 x8 x9 x10 x11 x12 x14 x15 x16 x18 x19 z0 kc ks :=
  br_c (fun c => h 0 (fun z => absurd c z.1) (fun _ => rfl)) (fun c => br_c (fun d => h 1 (fun _ => rfl) (fun z => absurd ⟨c, fun q => q.1 d⟩ z)) (fun d => br_c (fun e => h 0 (fun z => absurd ⟨d, e⟩ z.2) (fun _ => rfl)) (fun e => h 1 (fun _ => rfl) (fun z => absurd ⟨c, fun q => e q.2⟩ z))))
theorem fd_L273 {post : Int32 → St0 → Prop} {mc ms kc ks : Nat} {x0 x1 x3 x4 x6 x7 x8 x9 x10 x11 x12 x14 x15 x16 x19 z0 z1 : Int32}
    (h : ∀ y : Int32, (x19 = 0 → y = 0) → (¬ x19 = 0 → y = 1) → wL_lawOf_284 post mc ms x0 x1 x3 x4 x6 x7 x8 x9 x10 x11 x12 x14 x15 x16 y (z1 + z0) kc ks)
    : wL_lawOf_273 post mc ms x0 x1 x3 x4 x6 x7 x8 x9 x10 x11 x12 x14 x15 x16 x19 z0 z1 kc ks :=
  br_c (fun c => h 0 (fun _ => rfl) (fun z => absurd c z)) (fun c => h 1 (fun z => absurd z c) (fun _ => rfl))
/-! the six checks at its end -/
theorem fd_L365 {post : Int32 → St0 → Prop} {mc ms kc ks : Nat} {x9 x10 x11 x12 x14 x20 z0 z1 : Int32} (H : post 1 ()) (e : z1 = z0) (w0 : x14 = 0 → x9 = -1) (w1 : ¬ x14 = 0 → x9 = x20)
    (l0 : x12 = 0 → x10 = 8) (l1 : ¬ x12 = 0 → x10 = 7) (i0 : x11 = 0) : wL_lawOf_365 post mc ms x9 x10 x11 x12 x14 x20 z0 z1 kc ks :=
  br_t e (br_c (fun c => br_t (w0 c) (br_c (fun d => br_t (l0 d) (br_t i0 H)) (fun d => br_t (l1 d) (br_t i0 H)))) (fun c => br_t (w1 c) (br_c (fun d => br_t (l0 d) (br_t i0 H)) (fun d => br_t (l1 d) (br_t i0 H)))))
theorem fd_L329 {post : Int32 → St0 → Prop} {mc ms kc ks : Nat} {x1 x3 x8 x9 x10 x11 x12 x14 x15 x16 x20 z0 z1 : Int32} (H : post 1 ()) (e : z1 = z0)
    (p0 : (x15 = 0 ∨ x3 < 0 ∨ 255 < x3 ∨ (¬ x16 = 0 ∧ ¬ x3 = x1)) → x8 = 0) (p1 : ¬ x15 = 0 → ¬ x3 < 0 → ¬ 255 < x3 → (x16 = 0 ∨ x3 = x1) → x8 = 1)
    (w0 : x14 = 0 → x9 = -1) (w1 : ¬ x14 = 0 → x9 = x20)
    (l0 : x12 = 0 → x10 = 8) (l1 : ¬ x12 = 0 → x10 = 7) (i0 : x11 = 0) : wL_lawOf_329 post mc ms x1 x3 x8 x9 x10 x11 x12 x14 x15 x16 x20 z0 z1 kc ks :=
  br_t e (br_c (fun c => fd_L365 H (p0 (Or.inl c)) w0 w1 l0 l1 i0) (fun c => br_c (fun d => fd_L365 H (p0 (Or.inr (Or.inl d))) w0 w1 l0 l1 i0) (fun d => br_c (fun f => fd_L365 H (p0 (Or.inr (Or.inr (Or.inl f)))) w0 w1 l0 l1 i0)
    (fun f => br_c (fun g => fd_L365 H (p1 c d f (Or.inl g)) w0 w1 l0 l1 i0) (fun g => br_c (fun k => fd_L365 H (p1 c d f (Or.inr k)) w0 w1 l0 l1 i0) (fun k => fd_L365 H (p0 (Or.inr (Or.inr (Or.inr ⟨g, k⟩)))) w0 w1 l0 l1 i0))))))
theorem fd_L299 {post : Int32 → St0 → Prop} {mc ms kc ks : Nat} {x0 x1 x3 x4 x7 x8 x9 x10 x11 x12 x14 x15 x16 x20 z0 z1 : Int32} (H : post 1 ()) (e : z1 = z0)
    (s0 : x4 = 0 → x7 = 0) (s1 : ¬ x4 = 0 → ¬ x12 = 0 → x4 = x0 → x7 = x1) (s2 : ¬ x4 = 0 → ¬ (¬ x12 = 0 ∧ x4 = x0) → x7 = -1)
    (p0 : (x15 = 0 ∨ x3 < 0 ∨ 255 < x3 ∨ (¬ x16 = 0 ∧ ¬ x3 = x1)) → x8 = 0) (p1 : ¬ x15 = 0 → ¬ x3 < 0 → ¬ 255 < x3 → (x16 = 0 ∨ x3 = x1) → x8 = 1)
    (w0 : x14 = 0 → x9 = -1) (w1 : ¬ x14 = 0 → x9 = x20)
    (l0 : x12 = 0 → x10 = 8) (l1 : ¬ x12 = 0 → x10 = 7) (i0 : x11 = 0) : wL_lawOf_299 post mc ms x0 x1 x3 x4 x7 x8 x9 x10 x11 x12 x14 x15 x16 x20 z0 z1 kc ks :=
  br_t e (br_c (fun c => fd_L329 H (s0 c) p0 p1 w0 w1 l0 l1 i0) (fun c => br_c (fun d => fd_L329 H (s2 c (fun z => z.1 d)) p0 p1 w0 w1 l0 l1 i0)
    (fun d => br_c (fun f => fd_L329 H (s1 c d f) p0 p1 w0 w1 l0 l1 i0) (fun f => fd_L329 H (s2 c (fun z => f z.2)) p0 p1 w0 w1 l0 l1 i0))))
theorem fd_L284 {post : Int32 → St0 → Prop} {mc ms kc ks : Nat} {x0 x1 x3 x4 x6 x7 x8 x9 x10 x11 x12 x14 x15 x16 z0 z1 : Int32} (H : post 1 ()) (t0 : x12 = 0 → x6 = -1) (t1 : ¬ x12 = 0 → x6 = 0)
    (s0 : x4 = 0 → x7 = 0) (s1 : ¬ x4 = 0 → ¬ x12 = 0 → x4 = x0 → x7 = x1) (s2 : ¬ x4 = 0 → ¬ (¬ x12 = 0 ∧ x4 = x0) → x7 = -1)
    (p0 : (x15 = 0 ∨ x3 < 0 ∨ 255 < x3 ∨ (¬ x16 = 0 ∧ ¬ x3 = x1)) → x8 = 0) (p1 : ¬ x15 = 0 → ¬ x3 < 0 → ¬ 255 < x3 → (x16 = 0 ∨ x3 = x1) → x8 = 1)
    (w0 : x14 = 0 → x9 = -1) (w1 : ¬ x14 = 0 → x9 = z1 + z0)
    (l0 : x12 = 0 → x10 = 8) (l1 : ¬ x12 = 0 → x10 = 7) (i0 : x11 = 0) : wL_lawOf_284 post mc ms x0 x1 x3 x4 x6 x7 x8 x9 x10 x11 x12 x14 x15 x16 z0 z1 kc ks :=
  nm_e (br_c (fun c => fd_L299 H (t0 c) s0 s1 s2 p0 p1 w0 w1 l0 l1 i0) (fun c => fd_L299 H (t1 c) s0 s1 s2 p0 p1 w0 w1 l0 l1 i0))
end
section
/-! the law: answers against the law's formula -/
theorem fd_pN {x : Nat} (h0 : 0 < x) (h : x < 256) : (nI x &&& (nI x - 1)) = 0 ↔ fd_p x = 1 := by
  have e : nI x - 1 = nI (x - 1) := pk_sub (a := x) (b := 1) (by omega)
  have b : x &&& (x - 1) < 2 ^ 8 := Nat.and_lt_two_pow (n := 8) x (by omega)
  rw [e, fd_and]
  constructor
  · intro z
    have z' : x &&& (x - 1) = 0 := (nI_eq (by omega) (by omega)).mp (z : nI _ = nI 0)
    exact if_pos z'
  · intro z
    by_cases c : x &&& (x - 1) = 0
    · rw [c]
      rfl
    · rw [show fd_p x = 0 from if_neg c] at z
      exact absurd z (by decide)
theorem fd_p01 (x : Nat) : fd_p x = 0 ∨ fd_p x = 1 := by
  unfold fd_p
  split
  · exact Or.inr rfl
  · exact Or.inl rfl
theorem fd_pS : ∀ j, j < 8 → fd_p (2 ^ j) = 1 := by decide
theorem fd_ladder {post : Int32 → St0 → Prop} {mc ms kc ks : Nat} {x0 x1 x2 x3 x4 x6 x7 x8 x9 x10 x11 : Int32} {n S V : Nat} (H : post 1 ()) (hn : n = 0 ∨ n = 1)
    (g : n = 1 → 0 < S ∧ S < 256 ∧ x0 = nI S ∧ x1 = nI V)
    (t0 : n = 0 → x6 = -1) (t1 : n = 1 → x6 = 0)
    (s0 : x4 = 0 → x7 = 0) (s1 : ¬ x4 = 0 → n = 1 → x4 = nI S → x7 = nI V) (s2 : ¬ x4 = 0 → ¬ (n = 1 ∧ x4 = nI S) → x7 = -1)
    (p : (x8 = 0 ∧ (x2 < 0 ∨ 7 < x2 ∨ x3 < 0 ∨ 255 < x3 ∨ (n = 1 ∧ nI S = (1 : Int32) <<< (x2 &&& 31) ∧ ¬ x3 = nI V))) ∨ (x8 = 1 ∧ ¬ x2 < 0 ∧ ¬ 7 < x2 ∧ ¬ x3 < 0 ∧ ¬ 255 < x3 ∧ (¬ (n = 1 ∧ nI S = (1 : Int32) <<< (x2 &&& 31)) ∨ x3 = nI V)))
    (w : (x9 = -1 ∧ (x4 < 1 ∨ 255 < x4)) ∨ (¬ x4 < 1 ∧ ¬ 255 < x4 ∧ ∃ T, x4 = nI T ∧ 0 < T ∧ T < 256 ∧ x9 = nI (fd_cnt n S T)))
    (l : x10 = nI (8 - n)) (i0 : x11 = 0) : wL_lawOf_88 post mc ms x0 x1 x2 x3 x4 x6 x7 x8 x9 x10 x11 (nI n) kc ks := by
  have n0 : nI n = 0 ↔ n = 0 := by
    rcases hn with rfl | rfl
    · exact ⟨fun _ => rfl, fun _ => rfl⟩
    · exact ⟨fun z => absurd z (by decide), fun z => absurd z (by decide)⟩
  have n1 : ¬ nI n = 0 ↔ n = 1 := ⟨fun z => hn.elim (fun q => absurd (n0.mpr q) z) id, fun z q => absurd (n0.mp q) (by omega)⟩
  refine fd_L88 (fun x13 h13 => fd_L108 (fun x14 h14 => fd_L129 (fun x15 h15 => fd_L146 (fun x16 h16 => fd_L170 (fun x17 a17 b17 => fd_L196 (fun x18 h18 => fd_L218 (fun x19 h19 => fd_L240 (fun y1 a1 b1 => fd_L252 (fun y2 a2 b2 => fd_L273 (fun y3 a3 b3 => fd_L284 H ?_ ?_ s0 ?_ ?_ ?_ ?_ ?_ ?_ ?_ ?_ i0))))))))))
  · exact fun z => t0 (n0.mp z)
  · exact fun z => t1 (n1.mp z)
  · intro c d e
    have q := g (n1.mp d)
    rw [s1 c (n1.mp d) (e.trans q.2.2.1), q.2.2.2]
  · intro c d
    refine s2 c (fun z => d ⟨n1.mpr z.1, ?_⟩)
    rw [(g z.1).2.2.1]
    exact z.2
  · intro c
    rcases p with ⟨z, _⟩ | ⟨_, q1, q2, q3, q4, q5⟩
    · exact z
    · rcases c with c | c | c | ⟨c1, c2⟩
      · exact absurd c (h15.mpr ⟨q1, q2⟩)
      · exact absurd c q3
      · exact absurd c q4
      · obtain ⟨d1, d2, d3⟩ := h16.mp c1
        have e1 := n1.mp (h13.mp d2).1
        have q := g e1
        rcases q5 with q5 | q5
        · exact absurd ⟨e1, q.2.2.1.symm.trans d3⟩ q5
        · exact absurd (q5.trans q.2.2.2.symm) c2
  · intro c1 c2 c3 c4
    rcases p with ⟨_, q | q | q | q | ⟨q1, q2, q3⟩⟩ | ⟨z, _⟩
    · exact absurd q (h15.mp c1).1
    · exact absurd q (h15.mp c1).2
    · exact absurd q c2
    · exact absurd q c3
    · have q := g q1
      rcases c4 with c4 | c4
      · exfalso
        refine absurd c4 (h16.mpr ⟨c1, h13.mpr ⟨n1.mpr q1, ?_⟩, q.2.2.1.trans q2⟩)
        have r := h15.mp c1
        have d2 : x2 ≤ 7 := by
          have r2 := r.2
          rw [Int32.lt_iff_toInt_lt] at r2
          rw [Int32.le_iff_toInt_le]
          omega
        obtain ⟨j, hj, e⟩ := nI_of2 (M := 7) (n := 7) (by decide) r.1 d2
        rw [e, fd_shl j (by omega)] at q2
        have bp : 2 ^ j < 256 := Nat.pow_lt_pow_right (n := 8) (a := 2) (by omega) (by omega)
        have eS : S = 2 ^ j := (nI_eq (by omega) (by omega)).mp q2
        rw [q.2.2.1]
        refine (fd_pN q.1 q.2.1).mpr ?_
        rw [eS]
        exact fd_pS j (by omega)
      · exact absurd (c4.trans q.2.2.2) q3
    · exact z
  · intro c
    rcases w with ⟨z, _⟩ | ⟨q1, q2, _⟩
    · exact z
    · exact absurd c (h14.mpr ⟨q1, q2⟩)
  · intro c
    have c' := h14.mp c
    rcases w with ⟨_, z⟩ | ⟨_, _, T, eT, hT0, hT, e9⟩
    · exact z.elim (fun z => absurd z c'.1) (fun z => absurd z c'.2)
    · subst eT
      have v1 : y1 = nI (if n = 1 then fd_p S else 0) := by
        by_cases e : n = 1
        · have q := g e
          rw [if_pos e]
          rw [q.2.2.1] at h13
          rcases fd_p01 S with o | o
          · rw [o]
            refine a1 (Classical.byContradiction (fun z => ?_))
            have := (fd_pN q.1 q.2.1).mp (h13.mp z).2
            omega
          · rw [o]
            exact b1 (h13.mpr ⟨n1.mpr e, (fd_pN q.1 q.2.1).mpr o⟩)
        · rw [if_neg e]
          exact a1 (Classical.byContradiction (fun z => e (n1.mp (h13.mp z).1)))
      have v2 : y2 = nI (if n = 1 ∧ T = S then 0 else fd_p T) := by
        by_cases e : n = 1 ∧ T = S
        · rw [if_pos e]
          exact b2 (fun z => z.2 ⟨n1.mpr e.1, by rw [(g e.1).2.2.1, e.2]⟩)
        · rw [if_neg e]
          have d : ¬ (¬ nI n = 0 ∧ nI T = x0) := by
            intro z
            have z1 := n1.mp z.1
            have q := g z1
            have z2 := z.2
            rw [q.2.2.1] at z2
            exact e ⟨z1, (nI_eq (by omega) (by omega)).mp z2⟩
          rcases fd_p01 T with o | o
          · rw [o]
            refine b2 (fun z => ?_)
            have := (fd_pN hT0 hT).mp (h18.mp z.1).2
            omega
          · rw [o]
            exact a2 ⟨h18.mpr ⟨c, (fd_pN hT0 hT).mpr o⟩, d⟩
      have v3 : y3 = nI (if n = 1 ∧ T ≠ S then fd_p (T ^^^ S) else 0) := by
        by_cases e : n = 1 ∧ T ≠ S
        · rw [if_pos e]
          have q := g e.1
          have d : ¬ nI T = x0 := by
            intro z
            rw [q.2.2.1] at z
            exact e.2 ((nI_eq (by omega) (by omega)).mp z)
          have e17 := a17 ⟨n1.mpr e.1, c, d⟩
          rw [q.2.2.1, fd_xor] at e17
          have bx : T ^^^ S < 256 := fd_xlt hT q.2.1
          have x0' : 0 < T ^^^ S := by
            rcases Nat.eq_zero_or_pos (T ^^^ S) with z | z
            · exact absurd (fd_xe z) e.2
            · exact z
          rw [e17] at h19
          rcases fd_p01 (T ^^^ S) with o | o
          · rw [o]
            refine a3 (Classical.byContradiction (fun z => ?_))
            have := (fd_pN x0' bx).mp (h19.mp z).2
            omega
          · rw [o]
            exact b3 (h19.mpr ⟨nI_ne0 x0' (by omega), (fd_pN x0' bx).mpr o⟩)
        · rw [if_neg e]
          have e17 : x17 = 0 := b17 (fun z => e ⟨n1.mp z.1, fun q => z.2.2 (by rw [(g (n1.mp z.1)).2.2.1, q])⟩)
          exact a3 (Classical.byContradiction (fun z => (h19.mp z).1 e17))
      rw [e9, v1, v2, v3, nI_add, nI_add]
      rfl
  · intro z
    rw [l, n0.mp z]
    rfl
  · intro z
    rw [l, n1.mp z]
    rfl
theorem fd_cell {post : Int32 → Prop} {L : Nat} {xs : Nat → Int32} (hL : L ≤ 5) (k : Nat) (hk : k < 5) (H : ∀ r, post r) : wpL_cellAt post L xs () (nI k) :=
  pk_le L k (fun _ => H _) (fun z => ⟨pk_in k L z, H _⟩)
theorem fd_take2 {post : Int32 → St2 → Prop} (set value : Int32)
    (H : ∀ (n S V : Nat) (r : Int32) (u : St2), fd_K n S V u → (n = 1 → 0 < S ∧ S < 256 ∧ set = nI S ∧ value = nI V) → (n = 0 → r = -1) → (n = 1 → r = 0) →
      ((n = 0 ∧ (set < 1 ∨ 255 < set ∨ value < 0 ∨ 255 < value)) ∨ (n = 1 ∧ ¬ set < 1 ∧ ¬ 255 < set ∧ ¬ value < 0 ∧ ¬ 255 < value)) → post r u) :
    wpX_take post (0, 0, 0, 0, 0, (fun _ => 0), (fun _ => 0), (fun _ => 0), (fun _ => 0)) set value :=
  fd_take set value (fun c u h => H 0 0 0 (-1) u h (fun z => absurd z (by decide)) (fun _ => rfl) (fun z => absurd z (by decide)) (Or.inl ⟨rfl, c⟩))
    (fun S V h0 hS _ e1 e2 c1 c2 c3 c4 u h => H 1 S V 0 u h (fun _ => ⟨h0, hS, e1, e2⟩) (fun z => absurd z (by decide)) (fun _ => rfl) (Or.inr ⟨rfl, c1, c2, c3, c4⟩))
theorem fd_poss2 {post : Int32 → St2 → Prop} {n S V : Nat} {u : St2} (h : fd_K n S V u) (i w : Int32)
    (H : ∀ r u', fd_K n S V u' → ((r = 0 ∧ (i < 0 ∨ 7 < i ∨ w < 0 ∨ 255 < w ∨ (n = 1 ∧ nI S = (1 : Int32) <<< (i &&& 31) ∧ ¬ w = nI V))) ∨ (r = 1 ∧ ¬ i < 0 ∧ ¬ 7 < i ∧ ¬ w < 0 ∧ ¬ 255 < w ∧ (¬ (n = 1 ∧ nI S = (1 : Int32) <<< (i &&& 31)) ∨ w = nI V))) → post r u') : wpX_possible post u i w :=
  fd_poss h i w (fun u' k c => H 0 u' k (Or.inl ⟨rfl, c⟩)) (fun u' k c1 c2 c3 c4 c5 => H 1 u' k (Or.inr ⟨rfl, c1, c2, c3, c4, c5⟩))
theorem fd_with2 {post : Int32 → St2 → Prop} {n S V : Nat} {u : St2} (h : fd_K n S V u) (t : Int32)
    (H : ∀ r u', fd_K n S V u' → ((r = -1 ∧ (t < 1 ∨ 255 < t)) ∨ (¬ t < 1 ∧ ¬ 255 < t ∧ ∃ T, t = nI T ∧ 0 < T ∧ T < 256 ∧ r = nI (fd_cnt n S T))) → post r u') : wpX_knownWith post u t :=
  fd_with h t (fun u' k c => H (-1) u' k (Or.inl ⟨rfl, c⟩)) (fun u' T k e h0 hT c1 c2 => H _ u' k (Or.inr ⟨c1, c2, T, e, h0, hT, rfl⟩))
theorem fd_lawOf (p0 p1 p2 p3 p4 : Int32) : wpL_lawOf (fun r _ => r = 1) 24 384 () p0 p1 p2 p3 p4 := by
  unfold wpL_lawOf
  refine ⟨by omega, by omega, 4, 36, by omega, by omega, ?_⟩
  unfold wpX_init
  dsimp only
  refine ⟨by omega, by omega, by omega, by omega, by omega, by omega, by omega, by omega, ?_⟩
  refine fd_take2 p0 p1 (fun n S V r26 u1 k1 g t0 t1 cases01 => ?_)
  obtain ⟨f1, f2, f3, f4, f5, b1, b2, b3, b4⟩ := u1
  refine fd_sum k1 p4 (fun r44 u2 k2 s0 s1 s2 => ?_)
  obtain ⟨f1, f2, f3, f4, f5, b1, b2, b3, b4⟩ := u2
  refine fd_poss2 k2 p2 p3 (fun r62 u3 k3 hp => ?_)
  obtain ⟨f1, f2, f3, f4, f5, b1, b2, b3, b4⟩ := u3
  refine fd_with2 k3 p4 (fun r80 u4 k4 hw => ?_)
  obtain ⟨f1, f2, f3, f4, f5, b1, b2, b3, b4⟩ := u4
  refine fd_miss k4 (fun u5 k5 => ?_)
  obtain ⟨f1, f2, f3, f4, f5, b1, b2, b3, b4⟩ := u5
  refine fd_idle k5 (fun u6 => ?_)
  obtain ⟨f1, f2, f3, f4, f5, b1, b2, b3, b4⟩ := u6
  have lad : ∀ (mc ms kc ks : Nat), wL_lawOf_88 (fun r _ => r = 1) mc ms p0 p1 p2 p3 p4 r26 r44 r62 r80 (nI (8 - n)) 0 (nI n) kc ks :=
    fun mc ms kc ks => fd_ladder rfl k1.1 g t0 t1 s0 s1 s2 hp hw rfl rfl
  rcases cases01 with ⟨rfl, c⟩ | ⟨rfl, c1, c2, c3, c4⟩
  · refine br_c (fun _ => lad _ _ _ _) (fun c1 => br_c (fun _ => lad _ _ _ _) (fun c2 => br_c (fun _ => lad _ _ _ _) (fun c3 => br_c (fun _ => lad _ _ _ _) (fun c4 => ?_))))
    rcases c with c | c | c | c
    · exact absurd c c1
    · exact absurd c c2
    · exact absurd c c3
    · exact absurd c c4
  · exact br_f c1 (br_f c2 (br_f c3 (br_f c4 (lad _ _ _ _))))
theorem i_vc (xs : Nat → Int32) (L : Nat) (hL : L ≤ 5) : wpL_law (fun r => r = 1) L xs := by
  unfold wpL_law
  refine fd_cell hL 0 (by omega) (fun r1 => fd_cell hL 1 (by omega) (fun r2 => fd_cell hL 2 (by omega) (fun r3 => fd_cell hL 3 (by omega) (fun r4 => fd_cell hL 4 (by omega) (fun r5 => ⟨24, 384, by omega, by omega, fd_lawOf r1 r2 r3 r4 r5⟩)))))
end
