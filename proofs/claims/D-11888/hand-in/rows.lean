section
/-! bits of an Int32 (began as the family 'Int32 by its bits' of kit/laws/BITS.to-paste, renamed) -/
def sd_bt (x : Int32) (i : Nat) : Bool := x.toBitVec.getLsbD i
theorem sd_ext {x y : Int32} (h : ∀ i, i < 32 → sd_bt x i = sd_bt y i) : x = y := Int32.toBitVec_inj.mp (BitVec.eq_of_getLsbD_eq (fun i hi => h i hi))
theorem sd_or (x y : Int32) (i : Nat) : sd_bt (x ||| y) i = (sd_bt x i || sd_bt y i) := by unfold sd_bt; rw [Int32.toBitVec_or, BitVec.getLsbD_or]
theorem sd_and (x y : Int32) (i : Nat) : sd_bt (x &&& y) i = (sd_bt x i && sd_bt y i) := by unfold sd_bt; rw [Int32.toBitVec_and, BitVec.getLsbD_and]
theorem sd_0 (i : Nat) : sd_bt 0 i = false := BitVec.getLsbD_zero
theorem sd_sl : ∀ n, n < 32 → ((nI n &&& 31).toBitVec.smod 32).toNat = n := by decide +kernel
theorem sd_shl (n : Nat) (hn : n < 32) (x : Int32) {i : Nat} (hi : i < 32) : sd_bt (x <<< (nI n &&& 31)) i = (decide (n ≤ i) && sd_bt x (i - n)) := by
  unfold sd_bt
  rw [Int32.toBitVec_shiftLeft]
  show (x.toBitVec <<< ((nI n &&& 31).toBitVec.smod 32).toNat).getLsbD i = _
  rw [sd_sl n hn, BitVec.getLsbD_shiftLeft]
  rcases Nat.lt_or_ge i n with h | h
  · simp [h, Nat.not_le.mpr h]
  · simp [hi, h, Nat.not_lt.mpr h]
theorem sd_sshr (n : Nat) (hn : n < 32) (x : Int32) {i : Nat} (hi : i < 32) : sd_bt (x >>> (nI n &&& 31)) i = if n + i < 32 then sd_bt x (n + i) else sd_bt x 31 := by
  unfold sd_bt
  rw [Int32.toBitVec_shiftRight]
  show (x.toBitVec.sshiftRight ((nI n &&& 31).toBitVec.smod 32).toNat).getLsbD i = _
  rw [sd_sl n hn, BitVec.getLsbD_sshiftRight, BitVec.msb_eq_getLsbD_last]
  simp [hi]
theorem sd_one : ∀ i, i < 32 → sd_bt 1 i = decide (i = 0) := by decide +kernel
/-- the program's test of a bit -/
theorem sd_q (T : Int32) (i : Nat) (hi : i < 32) : ((T >>> (nI i &&& 31)) &&& 1) = 0 ↔ sd_bt T i = false := by
  have e0 : sd_bt (T >>> (nI i &&& 31)) 0 = sd_bt T i := by
    rw [sd_sshr i hi T (by omega), if_pos (by omega)]
    rfl
  constructor
  · intro h
    have h2 : sd_bt ((T >>> (nI i &&& 31)) &&& 1) 0 = false := by
      rw [h]
      exact sd_0 0
    rw [sd_and, e0, sd_one 0 (by omega)] at h2
    simpa using h2
  · intro h
    refine sd_ext (fun j hj => ?_)
    rw [sd_and, sd_one j hj, sd_0]
    by_cases e : j = 0
    · rw [e, e0, h]
      rfl
    · simp [e]
theorem sd_q1 {T : Int32} {i : Nat} (hi : i < 32) (h : sd_bt T i = true) : ¬ ((T >>> (nI i &&& 31)) &&& 1) = 0 := by
  intro z
  rw [sd_q T i hi, h] at z
  exact absurd z (by decide)
/-- one bit set -/
theorem sd_put (P : Int32) {i j : Nat} (hi : i < 32) (hj : j < 32) : sd_bt (P ||| ((1 : Int32) <<< (nI i &&& 31))) j = (sd_bt P j || decide (j = i)) := by
  rw [sd_or, sd_shl i hi 1 hj]
  by_cases h : i ≤ j
  · rw [sd_one (j - i) (by omega)]
    by_cases e : j = i
    · simp [e]
    · have e2 : ¬ j - i = 0 := by omega
      simp [e, e2]
  · have e : ¬ j = i := by omega
    simp [h, e]
theorem sd_nf {b : Bool} (h : ¬ b = false) : b = true := by
  cases b
  · exact absurd rfl h
  · rfl
/-- one bit set, and cleared again -/
theorem sd_clr : ∀ k, k < 20 → ((0 : Int32) ||| ((1 : Int32) <<< (nI k &&& 31))) &&& (((1 : Int32) <<< (nI k &&& 31)) ^^^ (-1)) = 0 := by decide +kernel
theorem sd_clr0 : ∀ k, k < 20 → (0 : Int32) &&& (((1 : Int32) <<< (nI k &&& 31)) ^^^ (-1)) = 0 := by decide +kernel
end
section
/-- the traps of T stand in b (below place k), what they hide in c, which they are in P; a: the code without them -/
def sd_R (T P : Int32) (a b c : Nat → Int32) (k : Nat) : Prop :=
  (∀ j, j < k → sd_bt T j = true → b j = 11 ∧ c j = vp_nar .byte (a j) ∧ sd_bt P j = true) ∧
  (∀ j, j < k → sd_bt T j = false → b j = a j ∧ sd_bt P j = false) ∧
  (∀ j, k ≤ j → b j = a j) ∧ (∀ j, k ≤ j → j < 32 → sd_bt P j = false)
theorem sd_R_0 {T : Int32} {a c : Nat → Int32} : sd_R T 0 a a c 0 :=
  ⟨fun j h => absurd h (by omega), fun j h => absurd h (by omega), fun _ _ => rfl, fun j _ _ => sd_0 j⟩
theorem sd_R_off {T P : Int32} {a b c : Nat → Int32} {i : Nat} (hi : i < 7) (h : sd_R T P a b c i) (ht : sd_bt T i = false) : sd_R T P a b c (i + 1) := by
  obtain ⟨h1, h2, h3, h4⟩ := h
  refine ⟨fun j hj hb => ?_, fun j hj hb => ?_, fun j hj => h3 j (by omega), fun j hj h32 => h4 j (by omega) h32⟩
  · rcases Nat.lt_or_ge j i with g | g
    · exact h1 j g hb
    · have e : j = i := by omega
      rw [e, ht] at hb
      exact absurd hb (by decide)
  · rcases Nat.lt_or_ge j i with g | g
    · exact h2 j g hb
    · exact ⟨h3 j g, h4 j g (by omega)⟩
theorem sd_R_on {T P : Int32} {a b c : Nat → Int32} {i : Nat} (hi : i < 7) (h : sd_R T P a b c i) (ht : sd_bt T i = true) :
    sd_R T (P ||| ((1 : Int32) <<< (nI i &&& 31))) a (upd b i 11) (upd c i (vp_nar .byte (b i))) (i + 1) := by
  obtain ⟨h1, h2, h3, h4⟩ := h
  refine ⟨fun j hj hb => ?_, fun j hj hb => ?_, fun j hj => ?_, fun j hj h32 => ?_⟩
  · rcases Nat.lt_or_ge j i with g | g
    · have ne : j ≠ i := by omega
      obtain ⟨p, q, r⟩ := h1 j g hb
      rw [pk_un ne, pk_un ne, sd_put P (by omega) (by omega), r]
      exact ⟨p, q, rfl⟩
    · have e : j = i := by omega
      rw [e, pk_us, pk_us, sd_put P (by omega) (by omega), h3 i (Nat.le_refl i)]
      exact ⟨rfl, rfl, by simp⟩
  · rcases Nat.lt_or_ge j i with g | g
    · have ne : j ≠ i := by omega
      obtain ⟨p, q⟩ := h2 j g hb
      rw [pk_un ne, sd_put P (by omega) (by omega), q]
      exact ⟨p, by simp [ne]⟩
    · have e : j = i := by omega
      rw [e, ht] at hb
      exact absurd hb (by decide)
  · have ne : j ≠ i := by omega
    rw [pk_un ne]
    exact h3 j (by omega)
  · have ne : j ≠ i := by omega
    rw [sd_put P (by omega) h32, h4 j (by omega) h32]
    simp [ne]
theorem sd_R_f {T P : Int32} {a b c : Nat → Int32} {i : Nat} (h : sd_R T P a b c 7) (hi : i < 7) (hb : sd_bt P i = false) : b i = a i := by
  cases e : sd_bt T i with
  | false => exact (h.2.1 i hi e).1
  | true =>
    have t := (h.1 i hi e).2.2
    rw [hb] at t
    exact absurd t (by decide)
theorem sd_R_t {T P : Int32} {a b c : Nat → Int32} {i : Nat} (h : sd_R T P a b c 7) (hi : i < 7) (hb : sd_bt P i = true) : c i = vp_nar .byte (a i) := by
  cases e : sd_bt T i with
  | true => exact (h.1 i hi e).2.1
  | false =>
    have t := (h.2.1 i hi e).2
    rw [hb] at t
    exact absurd t (by decide)
theorem sd_same {T P : Int32} {a b c s : Nat → Int32} (h : sd_R T P a b c 7) (hs : (∀ j, j < 7 → s j = a j) ∧ (∀ j, 7 ≤ j → s j = b j)) : s = a := by
  funext j
  rcases Nat.lt_or_ge j 7 with g | g
  · exact hs.1 j g
  · rw [hs.2 j g]
    exact h.2.2.1 j g
theorem sd_L {a b s : Nat → Int32} {i : Nat} (h : (∀ j, j < i → s j = a j) ∧ (∀ j, i ≤ j → s j = b j)) (e : s i = a i) : (∀ j, j < i + 1 → s j = a j) ∧ (∀ j, i + 1 ≤ j → s j = b j) := by
  refine ⟨fun j hj => ?_, fun j hj => h.2 j (by omega)⟩
  by_cases g : j = i
  · rw [g]
    exact e
  · exact h.1 j (by omega)
theorem sd_U {a b s : Nat → Int32} {i : Nat} (h : (∀ j, j < i → s j = a j) ∧ (∀ j, i ≤ j → s j = b j)) : (∀ j, j < i + 1 → upd s i (a i) j = a j) ∧ (∀ j, i + 1 ≤ j → upd s i (a i) j = b j) := by
  refine ⟨fun j hj => ?_, fun j hj => ?_⟩
  · by_cases g : j = i
    · rw [g, pk_us]
    · rw [pk_un g]
      exact h.1 j (by omega)
  · have g : j ≠ i := by omega
    rw [pk_un g]
    exact h.2 j (by omega)
section
variable {post : St2 → Prop} {lv pc ov ct br wy am ap ad : Int32} {a1 a2 a3 a4 a5 a6 a7 : Nat → Int32}
theorem sd_plant (T : Int32) (H : ∀ P b c, sd_R T P a1 b c 7 → post (P, 7, lv, pc, ov, ct, br, wy, am, ap, ad, b, a2, a3, c, a5, a6, a7)) :
    wpX_plant post (0, 7, lv, pc, ov, ct, br, wy, am, ap, ad, a1, a2, a3, a4, a5, a6, a7) T :=
  pk_loop (σ := Int32 × (Nat → Int32) × (Nat → Int32))
    (fun n i s => wX_plant_2 post T 7 lv pc ov ct br wy am ap ad n (nI i) s.1 s.2.1 a2 a3 s.2.2 a5 a6 a7)
    (fun i s => sd_R T s.1 a1 s.2.1 s.2.2 i) 7 0 (0, a1, a4) (by omega) sd_R_0
    (fun n s h => pk_le 7 7 (fun _ => H s.1 s.2.1 s.2.2 h) (fun z => absurd z (by omega)))
    (fun n i s hi h hw => pk_le 7 i (fun z => absurd z (by omega)) (fun _ => ek_if (sd_q T i (by omega))
      (fun hb => nm_r (nI_1 i) (hw (s.1, s.2.1, s.2.2) (sd_R_off hi h hb)))
      (fun hb => ⟨pk_in i 20 (by omega), pk_in i 20 (by omega),
        nm_r (e' := upd s.2.2 i (vp_nar .byte (s.2.1 i))) (by rw [nI_clamp (by omega)])
          ⟨pk_in i 20 (by omega), nm_r (e' := upd s.2.1 i 11) (by rw [nI_clamp (by omega)])
            (nm_e (nm_r (nI_1 i) (hw (_, _, _) (sd_R_on hi h (sd_nf hb)))))⟩⟩)))
theorem sd_lift {T P : Int32} {b c : Nat → Int32} (hR : sd_R T P a1 b c 7) (hn : ∀ j, j < 7 → vp_nar .byte (a1 j) = a1 j)
    (H : post (0, 7, lv, pc, ov, ct, br, wy, am, ap, ad, a1, a2, a3, c, a5, a6, a7)) :
    wpX_lift post (P, 7, lv, pc, ov, ct, br, wy, am, ap, ad, b, a2, a3, c, a5, a6, a7) :=
  pk_loop (σ := Nat → Int32)
    (fun n i s => wX_lift_2 post P 7 lv pc ov ct br wy am ap ad n (nI i) s a2 a3 c a5 a6 a7)
    (fun i s => (∀ j, j < i → s j = a1 j) ∧ (∀ j, i ≤ j → s j = b j)) 7 0 b (by omega) ⟨fun j h => absurd h (by omega), fun _ _ => rfl⟩
    (fun n s h => pk_le 7 7 (fun _ => by rw [sd_same hR h]; exact H) (fun z => absurd z (by omega)))
    (fun n i s hi h hw => pk_le 7 i (fun z => absurd z (by omega)) (fun _ => ek_if (sd_q P i (by omega))
      (fun hb => nm_r (nI_1 i) (hw s (sd_L h (by rw [h.2 i (Nat.le_refl i)]; exact sd_R_f hR hi hb))))
      (fun hb => ⟨pk_in i 20 (by omega), pk_in i 20 (by omega),
        nm_r (e' := upd s i (a1 i)) (by rw [nI_clamp (by omega), sd_R_t hR hi (sd_nf hb), hn i hi, hn i hi])
          (nm_r (nI_1 i) (hw _ (sd_U h)))⟩)))
end
end
section
theorem sd_k0 : (0 : Int32).toNatClampNeg = 0 := nI_clamp (n := 0) (by decide)
theorem sd_k1 : (1 : Int32).toNatClampNeg = 1 := nI_clamp (n := 1) (by decide)
theorem sd_k2 : (2 : Int32).toNatClampNeg = 2 := nI_clamp (n := 2) (by decide)
theorem sd_f3 {V1 V2 V3 : Prop} {e1 e2 e3 : Int32} {P : Int32 → Int32 → Int32 → Prop} (o i w : Int32) (v1 : V1) (v2 : V2) (v3 : V3) (h1 : e1 = o) (h2 : e2 = i) (h3 : e3 = w) (H : P o i w) :
    V1 ∧ ∀ x, x = e1 → (V2 ∧ ∀ y, y = e2 → (V3 ∧ ∀ z, z = e3 → P x y z)) :=
  ⟨v1, nm_r h1 ⟨v2, nm_r h2 ⟨v3, nm_r h3 H⟩⟩⟩
theorem sd_rd {a : Nat → Int32} {x : Int32} (k : Nat) {v : Int32} (hk : k < 7) (h : a k = v) (hx : x = nI k := by rfl) : a x.toNatClampNeg = v := by
  rw [hx, nI_clamp (by omega)]
  exact h
theorem sd_rn {a : Nat → Int32} {x : Int32} (k : Nat) {v : Int32} (hk : k < 7) (h : ¬ a k = v) (hx : x = nI k := by rfl) : ¬ a x.toNatClampNeg = v := by
  rw [hx, nI_clamp (by omega)]
  exact h
section
variable {pl lv pc ov ct br wy am ap ad p d : Int32} {a1 a2 a3 a4 a5 a6 a7 : Nat → Int32} {post : Int32 → Prop}
theorem sd_in (k : Nat) (hk : k < 7) (hp : p = nI k) (H : post 1) : wpX_inside post (pl, 7, lv, pc, ov, ct, br, wy, am, ap, ad, a1, a2, a3, a4, a5, a6, a7) p := by
  subst hp
  exact br_f (nI_pos (by omega)) (br_f (nI_ge (b := 7) hk (by decide)) H)
theorem sd_out (hp : p < 0 ∨ 7 ≤ p) (H : post 0) : wpX_inside post (pl, 7, lv, pc, ov, ct, br, wy, am, ap, ad, a1, a2, a3, a4, a5, a6, a7) p :=
  br_c (fun _ => H) (fun h => br_t (hp.resolve_left h) H)
theorem sd_bit (k : Nat) (hk : k < 7) (hp : p = nI k) (H : post ((1 : Int32) <<< (nI k &&& 31))) : wpX_bit post (pl, 7, lv, pc, ov, ct, br, wy, am, ap, ad, a1, a2, a3, a4, a5, a6, a7) p := by
  subst hp
  unfold wpX_bit
  dsimp only
  exact sd_in k hk rfl (br_f (by decide) H)
theorem sd_bit0 (hp : p < 0 ∨ 7 ≤ p) (H : post 0) : wpX_bit post (pl, 7, lv, pc, ov, ct, br, wy, am, ap, ad, a1, a2, a3, a4, a5, a6, a7) p := by
  unfold wpX_bit
  dsimp only
  exact sd_out hp (br_t rfl H)
theorem sd_free (k : Nat) (hk : k < 7) (hp : pc = nI k) (hl : ¬ 6 ≤ lv) (h8 : ¬ (a1 k = 8 ∧ lv = 0)) (H : post 0) : wpX_stuck post (pl, 7, lv, pc, ov, ct, br, wy, am, ap, ad, a1, a2, a3, a4, a5, a6, a7) := by
  have t : wX_stuck_23 post pl 7 lv pc ov ct br wy am ap ad a1 a2 a3 a4 a5 a6 a7 := by
    unfold wX_stuck_23
    exact ⟨pk_in k 20 (by omega) hp, br_c (fun g => br_f (fun z => h8 ⟨by rw [hp, nI_clamp (by omega)] at g; exact g, z⟩) H) (fun _ => H)⟩
  unfold wpX_stuck
  dsimp only
  exact ⟨pk_in k 20 (by omega) hp, br_c (fun _ => br_f hl t) (fun _ => t)⟩
/-! judge: ended; nothing done yet; the aim is reached; a break; it goes on -/
theorem sd_j6 (H : post 6) : wpX_judge post (pl, 7, lv, pc, 1, ct, br, wy, am, ap, ad, a1, a2, a3, a4, a5, a6, a7) d := by
  unfold wpX_judge
  exact br_f (by decide) H
theorem sd_j0 (k : Nat) (hk : k < 7) (hl : ¬ 6 ≤ lv) (h8 : ¬ (a1 k = 8 ∧ lv = 0)) (H : post 0) : wpX_judge post (pl, 7, lv, nI k, 0, ct, br, wy, am, ap, ad, a1, a2, a3, a4, a5, a6, a7) 0 := by
  unfold wpX_judge
  exact br_t rfl (sd_in k hk rfl (br_f (by decide) (sd_free k hk rfl hl h8 (br_t rfl (br_t (by decide) (br_t (by decide) (br_t (by decide) H)))))))
theorem sd_j1 (k : Nat) (hk : k < 7) (hl : ¬ 6 ≤ lv) (h8 : ¬ (a1 k = 8 ∧ lv = 0)) (hd : ¬ d ≤ 0)
    (ha : ∀ Q : Int32 → Prop, Q 1 → wpX_aimReached Q (pl, 7, lv, nI k, 0, ct, br, wy, am, ap, ad, a1, a2, a3, a4, a5, a6, a7)) (H : post 1) : wpX_judge post (pl, 7, lv, nI k, 0, ct, br, wy, am, ap, ad, a1, a2, a3, a4, a5, a6, a7) d := by
  unfold wpX_judge
  exact br_t rfl (sd_in k hk rfl (br_f (by decide) (sd_free k hk rfl hl h8 (br_t rfl (br_f hd (ha _ (br_f (by decide) H)))))))
theorem sd_j2 (k : Nat) (hk : k < 7) (hl : ¬ 6 ≤ lv) (h8 : ¬ (a1 k = 8 ∧ lv = 0)) (hd : ¬ d ≤ 0)
    (ha : ∀ Q : Int32 → Prop, Q 0 → wpX_aimReached Q (pl, 7, lv, nI k, 0, ct, br, wy, am, ap, ad, a1, a2, a3, a4, a5, a6, a7)) (hb : sd_bt br k = true) (H : post 2) : wpX_judge post (pl, 7, lv, nI k, 0, ct, br, wy, am, ap, ad, a1, a2, a3, a4, a5, a6, a7) d := by
  unfold wpX_judge
  exact br_t rfl (sd_in k hk rfl (br_f (by decide) (sd_free k hk rfl hl h8 (br_t rfl (br_f hd (ha _ (br_t rfl (br_f hd (br_f (sd_q1 (by omega) hb) H)))))))))
theorem sd_jf (k : Nat) (hk : k < 7) (hl : ¬ 6 ≤ lv) (h8 : ¬ (a1 k = 8 ∧ lv = 0)) (hd : ¬ d ≤ 0) (hd2 : d < 150)
    (ha : ∀ Q : Int32 → Prop, Q 0 → wpX_aimReached Q (pl, 7, lv, nI k, 0, ct, br, wy, am, ap, ad, a1, a2, a3, a4, a5, a6, a7)) (hb : sd_bt br k = false) (H : post 0) : wpX_judge post (pl, 7, lv, nI k, 0, ct, br, wy, am, ap, ad, a1, a2, a3, a4, a5, a6, a7) d := by
  unfold wpX_judge
  exact br_t rfl (sd_in k hk rfl (br_f (by decide) (sd_free k hk rfl hl h8 (br_t rfl (br_f hd (ha _ (br_t rfl (br_f hd (br_t ((sd_q br k (by omega)).mpr hb) (br_t hd2 H))))))))))
/-! the aims: 2 (a place), 3 (a place and a depth), 4 (shallower) -/
theorem sd_a2t (h : pc = ap) (Q : Int32 → Prop) (H : Q 1) : wpX_aimReached Q (pl, 7, lv, pc, ov, ct, br, wy, 2, ap, ad, a1, a2, a3, a4, a5, a6, a7) :=
  br_f (by decide) (br_f (by decide) (br_f (by decide) (br_t rfl (br_t h H))))
theorem sd_a2f (h : ¬ pc = ap) (Q : Int32 → Prop) (H : Q 0) : wpX_aimReached Q (pl, 7, lv, pc, ov, ct, br, wy, 2, ap, ad, a1, a2, a3, a4, a5, a6, a7) :=
  br_f (by decide) (br_f (by decide) (br_f (by decide) (br_t rfl (br_f h H))))
theorem sd_a3t (h : pc = ap) (h2 : lv = ad) (Q : Int32 → Prop) (H : Q 1) : wpX_aimReached Q (pl, 7, lv, pc, ov, ct, br, wy, 3, ap, ad, a1, a2, a3, a4, a5, a6, a7) :=
  br_f (by decide) (br_f (by decide) (br_t rfl (br_t h (br_t h2 H))))
theorem sd_a3f (h : ¬ pc = ap) (Q : Int32 → Prop) (H : Q 0) : wpX_aimReached Q (pl, 7, lv, pc, ov, ct, br, wy, 3, ap, ad, a1, a2, a3, a4, a5, a6, a7) :=
  br_f (by decide) (br_f (by decide) (br_t rfl (br_f h H)))
theorem sd_a4t (h : ¬ ad ≤ lv) (Q : Int32 → Prop) (H : Q 1) : wpX_aimReached Q (pl, 7, lv, pc, ov, ct, br, wy, 4, ap, ad, a1, a2, a3, a4, a5, a6, a7) :=
  br_f (by decide) (br_t rfl (br_f h H))
theorem sd_a4f (h : ad ≤ lv) (Q : Int32 → Prop) (H : Q 0) : wpX_aimReached Q (pl, 7, lv, pc, ov, ct, br, wy, 4, ap, ad, a1, a2, a3, a4, a5, a6, a7) :=
  br_f (by decide) (br_t rfl (br_t h H))
end
section
variable {pl lv ov ct br wy am ap ad : Int32} {a1 a2 a3 a4 a5 a6 a7 : Nat → Int32} {Q : St2 → Prop}
/-! carry, an instruction of the law's program each -/
theorem sd_c0 {v : Int32} (h1 : a1 0 = 0) (h2 : a2 0 = 0) (h3 : a3 0 = v) (H : Q (pl, 7, lv, nI 1, ov, ct, br, wy, am, ap, ad, a1, a2, a3, a4, upd a5 0 v, a6, a7)) : wpX_carry Q (pl, 7, lv, nI 0, ov, ct, br, wy, am, ap, ad, a1, a2, a3, a4, a5, a6, a7) := by
  unfold wpX_carry
  exact sd_f3 0 0 v (pk_in 0 20 (by omega)) (pk_in 0 20 (by omega)) (pk_in 0 20 (by omega)) (sd_rd 0 (by omega) h1) (sd_rd 0 (by omega) h2) (sd_rd 0 (by omega) h3)
    (br_f (by decide) (br_t rfl ⟨pk_in 0 4 (by omega), nm_r (e' := upd a5 0 v) (by rw [sd_k0]) (nm_r (nI_1 0) H)⟩))
theorem sd_c1 (h1 : a1 1 = 7) (h3 : a3 1 = 4) (H : Q (pl, 7, 1, nI 4, ov, ct, br, wy, am, ap, ad, a1, a2, a3, a4, a5, a6, upd a7 0 2)) : wpX_carry Q (pl, 7, 0, nI 1, ov, ct, br, wy, am, ap, ad, a1, a2, a3, a4, a5, a6, a7) := by
  unfold wpX_carry
  exact sd_f3 7 (a2 1) (nI 4) (pk_in 1 20 (by omega)) (pk_in 1 20 (by omega)) (pk_in 1 20 (by omega)) (sd_rd 1 (by omega) h1) (sd_rd 1 (by omega) rfl) (sd_rd 1 (by omega) h3)
    (br_t (by decide) (br_f (by decide) (br_f (by decide) (br_t rfl ⟨pk_in 0 6 (by omega), nm_r (e' := upd a7 0 2) (by rw [sd_k0]; rfl) (nm_r (e' := 1) (by decide) H)⟩))))
theorem sd_c2 {w : Int32} (h1 : a1 2 = 1) (h2 : a2 2 = 1) (h3 : a3 2 = 0) (hw : a5 1 + a5 0 = w) (H : Q (pl, 7, lv, nI 3, ov, ct, br, wy, am, ap, ad, a1, a2, a3, a4, upd a5 1 w, a6, a7)) : wpX_carry Q (pl, 7, lv, nI 2, ov, ct, br, wy, am, ap, ad, a1, a2, a3, a4, a5, a6, a7) := by
  unfold wpX_carry
  exact sd_f3 1 1 0 (pk_in 2 20 (by omega)) (pk_in 2 20 (by omega)) (pk_in 2 20 (by omega)) (sd_rd 2 (by omega) h1) (sd_rd 2 (by omega) h2) (sd_rd 2 (by omega) h3)
    (br_f (by decide) (br_f (by decide) (br_t rfl ⟨pk_in 1 4 (by omega), pk_in 0 4 (by omega), pk_in 1 4 (by omega), nm_r (e' := upd a5 1 w) (by rw [sd_k0, sd_k1, hw]) (nm_r (nI_1 2) H)⟩)))
theorem sd_c3 (h1 : a1 3 = 10) (H : Q (pl, 7, lv, nI 3, 1, ct, br, wy, am, ap, ad, a1, a2, a3, a4, a5, a6, a7)) : wpX_carry Q (pl, 7, lv, nI 3, ov, ct, br, wy, am, ap, ad, a1, a2, a3, a4, a5, a6, a7) := by
  unfold wpX_carry
  exact sd_f3 10 (a2 3) (a3 3) (pk_in 3 20 (by omega)) (pk_in 3 20 (by omega)) (pk_in 3 20 (by omega)) (sd_rd 3 (by omega) h1) (sd_rd 3 (by omega) rfl) (sd_rd 3 (by omega) rfl)
    (br_t (by decide) (br_f (by decide) (br_f (by decide) (br_f (by decide) (br_f (by decide) (br_f (by decide) H))))))
theorem sd_c4 {v : Int32} {j : Nat} (h1 : a1 4 = 4) (h2 : a2 4 = 0) (h3 : a3 4 = 0) (hv : a5 0 = v) (hj : j < 8) (ej : v &&& 7 = nI j) (H : Q (pl, 7, lv, nI 5, ov, ct, br, wy, am, ap, ad, a1, a2, a3, a4, a5, upd a6 j v, a7)) : wpX_carry Q (pl, 7, lv, nI 4, ov, ct, br, wy, am, ap, ad, a1, a2, a3, a4, a5, a6, a7) := by
  unfold wpX_carry
  exact sd_f3 4 0 0 (pk_in 4 20 (by omega)) (pk_in 4 20 (by omega)) (pk_in 4 20 (by omega)) (sd_rd 4 (by omega) h1) (sd_rd 4 (by omega) h2) (sd_rd 4 (by omega) h3)
    (br_f (by decide) (br_f (by decide) (br_f (by decide) (br_f (by decide) (br_f (by decide) ⟨pk_in 0 4 (by omega), pk_in 0 4 (by omega), pk_in j 8 hj (by rw [sd_k0, hv, ej]), nm_r (e' := upd a6 j v) (by rw [sd_k0, hv, ej, nI_clamp (by omega)]) (nm_r (nI_1 4) H)⟩)))))
theorem sd_c5 {w : Int32} (h1 : a1 5 = 2) (h2 : a2 5 = 2) (h3 : a3 5 = 0) (hw : a5 2 - a5 0 = w) (H : Q (pl, 7, lv, nI 6, ov, ct, br, wy, am, ap, ad, a1, a2, a3, a4, upd a5 2 w, a6, a7)) : wpX_carry Q (pl, 7, lv, nI 5, ov, ct, br, wy, am, ap, ad, a1, a2, a3, a4, a5, a6, a7) := by
  unfold wpX_carry
  exact sd_f3 2 2 0 (pk_in 5 20 (by omega)) (pk_in 5 20 (by omega)) (pk_in 5 20 (by omega)) (sd_rd 5 (by omega) h1) (sd_rd 5 (by omega) h2) (sd_rd 5 (by omega) h3)
    (br_f (by decide) (br_f (by decide) (br_f (by decide) (br_t rfl ⟨pk_in 2 4 (by omega), pk_in 0 4 (by omega), pk_in 2 4 (by omega), nm_r (e' := upd a5 2 w) (by rw [sd_k0, sd_k2, hw]) (nm_r (nI_1 5) H)⟩))))
theorem sd_c6 (h1 : a1 6 = 8) (h7 : a7 0 = 2) (H : Q (pl, 7, 0, nI 2, ov, ct, br, wy, am, ap, ad, a1, a2, a3, a4, a5, a6, a7)) : wpX_carry Q (pl, 7, 1, nI 6, ov, ct, br, wy, am, ap, ad, a1, a2, a3, a4, a5, a6, a7) := by
  unfold wpX_carry
  exact sd_f3 8 (a2 6) (a3 6) (pk_in 6 20 (by omega)) (pk_in 6 20 (by omega)) (pk_in 6 20 (by omega)) (sd_rd 6 (by omega) h1) (sd_rd 6 (by omega) rfl) (sd_rd 6 (by omega) rfl)
    (br_t (by decide) (br_f (by decide) (br_f (by decide) (br_f (by decide) (br_t rfl (nm_r (e' := 0) (by decide) ⟨pk_in 0 6 (by omega), nm_r (e' := nI 2) (by rw [sd_k0]; exact h7) H⟩))))))
end
section
variable {pl lv lw pc pd ov ow ct br wy am ap ad x1 x2 x3 : Int32} {a1 a2 a3 a4 a5 a6 a7 b5 b6 b7 : Nat → Int32} {post : Int32 → St2 → Prop} {n : Nat}
/-! resume: a trap; the target is over; one instruction -/
theorem sd_trap (k : Nat) (hk : k < 7) (hx : ¬ x1 ≤ x3) (ht : a1 k = 11) (H : post x2 (pl, 7, lv, nI k, 0, ct, br, wy, am, ap, ad, a1, a2, a3, a4, a5, a6, a7)) : wX_resume_4 post x1 (n + 1) x2 x3 pl 7 lv (nI k) 0 ct br wy am ap ad a1 a2 a3 a4 a5 a6 a7 :=
  br_f hx (br_t rfl (sd_in k hk rfl (br_f (by decide) ⟨pk_in k 20 (by omega), br_t (sd_rd k hk ht) H⟩)))
theorem sd_done (hx : ¬ x1 ≤ x3) (H : post x2 (pl, 7, lv, pc, 1, ct, br, wy, am, ap, ad, a1, a2, a3, a4, a5, a6, a7)) : wX_resume_4 post x1 (n + 1) x2 x3 pl 7 lv pc 1 ct br wy am ap ad a1 a2 a3 a4 a5 a6 a7 :=
  br_f hx (br_f (by decide) H)
theorem sd_go (k : Nat) (y2 y3 yc : Int32) (hk : k < 7) (hx : ¬ x1 ≤ x3) (ht : ¬ a1 k = 11) (hl : ¬ 6 ≤ lv) (h8 : ¬ (a1 k = 8 ∧ lv = 0)) (e2 : x2 + 1 = y2) (e3 : x3 + 1 = y3) (ec : ct + 1 = yc)
    (hc : ∀ Q : St2 → Prop, Q (pl, 7, lw, pd, ow, ct, br, wy, am, ap, ad, a1, a2, a3, a4, b5, b6, b7) → wpX_carry Q (pl, 7, lv, nI k, 0, ct, br, wy, am, ap, ad, a1, a2, a3, a4, a5, a6, a7))
    (H : wX_resume_4 post x1 n y2 y3 pl 7 lw pd ow yc br wy am ap ad a1 a2 a3 a4 b5 b6 b7) : wX_resume_4 post x1 (n + 1) x2 x3 pl 7 lv (nI k) 0 ct br wy am ap ad a1 a2 a3 a4 a5 a6 a7 :=
  br_f hx (br_t rfl (sd_in k hk rfl (br_f (by decide) ⟨pk_in k 20 (by omega), br_f (sd_rn k hk ht) (sd_free k hk rfl hl h8 (br_t rfl (hc _ (nm_r e2 (nm_r ec (nm_r e3 H))))))⟩)))
end
end
section
/-- the law's program -/
def sd_C (v : Int32) (a1 a2 a3 : Nat → Int32) : Prop :=
  (a1 0 = 0 ∧ a1 1 = 7 ∧ a1 2 = 1 ∧ a1 3 = 10 ∧ a1 4 = 4 ∧ a1 5 = 2 ∧ a1 6 = 8) ∧
  (a2 0 = 0 ∧ a2 2 = 1 ∧ a2 4 = 0 ∧ a2 5 = 2) ∧ (a3 0 = v ∧ a3 1 = 4 ∧ a3 2 = 0 ∧ a3 4 = 0 ∧ a3 5 = 0)
theorem sd_7 {P : Nat → Prop} (h0 : P 0) (h1 : P 1) (h2 : P 2) (h3 : P 3) (h4 : P 4) (h5 : P 5) (h6 : P 6) : ∀ j, j < 7 → P j
  | 0, _ => h0 | 1, _ => h1 | 2, _ => h2 | 3, _ => h3 | 4, _ => h4 | 5, _ => h5 | 6, _ => h6
  | j + 7, h => absurd h (by omega)
theorem sd_nar {v : Int32} {a1 a2 a3 : Nat → Int32} (hC : sd_C v a1 a2 a3) : ∀ j, j < 7 → vp_nar .byte (a1 j) = a1 j := by
  obtain ⟨⟨h0, h1, h2, h3, h4, h5, h6⟩, -, -⟩ := hC
  refine sd_7 ?_ ?_ ?_ ?_ ?_ ?_ ?_
  · rw [h0]; exact pk_vb 0
  · rw [h1]; exact pk_vb 7
  · rw [h2]; exact pk_vb 1
  · rw [h3]; exact pk_vb 10
  · rw [h4]; exact pk_vb 4
  · rw [h5]; exact pk_vb 2
  · rw [h6]; exact pk_vb 8
theorem sd_n8 {x y l : Int32} (h : x = y) (e : ¬ y = 8) : ¬ (x = 8 ∧ l = 0) := fun z => e (by rw [← h]; exact z.1)
theorem sd_l8 {x : Int32} : ¬ (x = 8 ∧ (1 : Int32) = 0) := fun z => absurd z.2 (by decide)
theorem sd_ne {x y w : Int32} (h : x = y) (e : ¬ y = w) : ¬ x = w := fun z => e (by rw [← h]; exact z)
section
variable {lv lw pc pd ov ow ct cu br wy am ap ad r v : Int32} {a1 a2 a3 a4 a5 a6 a7 b5 b6 b7 : Nat → Int32} {post : Int32 → St2 → Prop}
/-- stepOff: the places where the instruction leads are trapped, two instructions are let run, the traps are lifted -/
theorem sd_so (k : Nat) (T : Int32) (hk : k < 7) (hC : sd_C v a1 a2 a3) (hs : ∀ Q : Int32 → Prop, Q T → wpX_successors Q (0, 7, lv, nI k, 0, ct, br, wy, am, ap, ad, a1, a2, a3, a4, a5, a6, a7)) (hT : sd_bt T k = false)
    (hr : ∀ P b c (Q : Int32 → St2 → Prop), sd_R T P a1 b c 7 → Q r (P, 7, lw, pd, ow, cu, br, wy, am, ap, ad, b, a2, a3, c, b5, b6, b7) → wpX_resume Q (P, 7, lv, nI k, 0, ct, br, wy, am, ap, ad, b, a2, a3, c, a5, a6, a7) 2)
    (H : ∀ c, post r (0, 7, lw, pd, ow, cu, br, wy, am, ap, ad, a1, a2, a3, c, b5, b6, b7)) : wpX_stepOff post (0, 7, lv, nI k, 0, ct, br, wy, am, ap, ad, a1, a2, a3, a4, a5, a6, a7) := by
  unfold wpX_stepOff
  exact hs _ (br_t ((sd_q T k (by omega)).mpr hT) (sd_plant T (fun P b c hR => hr P b c _ hR (sd_lift hR (sd_nar hC) (H c)))))
/-! where an instruction leads -/
theorem sd_su0 (hC : sd_C v a1 a2 a3) (Q : Int32 → Prop) (H : Q ((1 : Int32) <<< (nI 1 &&& 31))) : wpX_successors Q (0, 7, lv, nI 0, 0, ct, br, wy, am, ap, ad, a1, a2, a3, a4, a5, a6, a7) := by
  unfold wpX_successors
  exact ⟨pk_in 0 20 (by omega), nm_r (e' := 0) (sd_rd 0 (by omega) hC.1.1) (sd_bit 1 (by omega) rfl (br_f (by decide) (br_f (by decide) (br_f (by decide) (br_f (by decide) (br_f (by decide) (br_f (by decide) H)))))))⟩
theorem sd_su1 (hC : sd_C v a1 a2 a3) (Q : Int32 → Prop) (H : Q ((1 : Int32) <<< (nI 4 &&& 31))) : wpX_successors Q (0, 7, lv, nI 1, 0, ct, br, wy, am, ap, ad, a1, a2, a3, a4, a5, a6, a7) := by
  have t : wX_successors_54 Q 0 7 lv (nI 1) 0 ct br wy am ap ad a1 a2 a3 a4 a5 a6 a7 := by
    unfold wX_successors_54
    exact ⟨pk_in 1 20 (by omega), sd_bit 4 (by omega) (sd_rd 1 (by omega) hC.2.2.2.1) H⟩
  unfold wpX_successors
  exact ⟨pk_in 1 20 (by omega), nm_r (e' := 7) (sd_rd 1 (by omega) hC.1.2.1) (sd_bit 2 (by omega) rfl (br_f (by decide) (br_f (by decide) (br_t rfl t))))⟩
theorem sd_su2 (hC : sd_C v a1 a2 a3) (Q : Int32 → Prop) (H : Q ((1 : Int32) <<< (nI 3 &&& 31))) : wpX_successors Q (0, 7, lv, nI 2, 0, ct, br, wy, am, ap, ad, a1, a2, a3, a4, a5, a6, a7) := by
  unfold wpX_successors
  exact ⟨pk_in 2 20 (by omega), nm_r (e' := 1) (sd_rd 2 (by omega) hC.1.2.2.1) (sd_bit 3 (by omega) rfl (br_f (by decide) (br_f (by decide) (br_f (by decide) (br_f (by decide) (br_f (by decide) (br_f (by decide) H)))))))⟩
theorem sd_su3 (hC : sd_C v a1 a2 a3) (Q : Int32 → Prop) (H : Q 0) : wpX_successors Q (0, 7, lv, nI 3, 0, ct, br, wy, am, ap, ad, a1, a2, a3, a4, a5, a6, a7) := by
  unfold wpX_successors
  exact ⟨pk_in 3 20 (by omega), nm_r (e' := 10) (sd_rd 3 (by omega) hC.1.2.2.2.1) (sd_bit 4 (by omega) rfl (br_f (by decide) (br_f (by decide) (br_f (by decide) (br_f (by decide) (br_f (by decide) (br_t rfl H)))))))⟩
theorem sd_su4 (hC : sd_C v a1 a2 a3) (Q : Int32 → Prop) (H : Q ((1 : Int32) <<< (nI 5 &&& 31))) : wpX_successors Q (0, 7, lv, nI 4, 0, ct, br, wy, am, ap, ad, a1, a2, a3, a4, a5, a6, a7) := by
  unfold wpX_successors
  exact ⟨pk_in 4 20 (by omega), nm_r (e' := 4) (sd_rd 4 (by omega) hC.1.2.2.2.2.1) (sd_bit 5 (by omega) rfl (br_f (by decide) (br_f (by decide) (br_f (by decide) (br_f (by decide) (br_f (by decide) (br_f (by decide) H)))))))⟩
theorem sd_su5 (hC : sd_C v a1 a2 a3) (Q : Int32 → Prop) (H : Q ((1 : Int32) <<< (nI 6 &&& 31))) : wpX_successors Q (0, 7, lv, nI 5, 0, ct, br, wy, am, ap, ad, a1, a2, a3, a4, a5, a6, a7) := by
  unfold wpX_successors
  exact ⟨pk_in 5 20 (by omega), nm_r (e' := 2) (sd_rd 5 (by omega) hC.1.2.2.2.2.2.1) (sd_bit 6 (by omega) rfl (br_f (by decide) (br_f (by decide) (br_f (by decide) (br_f (by decide) (br_f (by decide) (br_f (by decide) H)))))))⟩
theorem sd_su6 (hC : sd_C v a1 a2 a3) (h7 : a7 0 = 2) (Q : Int32 → Prop) (H : Q ((1 : Int32) <<< (nI 2 &&& 31))) : wpX_successors Q (0, 7, 1, nI 6, 0, ct, br, wy, am, ap, ad, a1, a2, a3, a4, a5, a6, a7) := by
  unfold wpX_successors
  exact ⟨pk_in 6 20 (by omega), nm_r (e' := 8) (sd_rd 6 (by omega) hC.1.2.2.2.2.2.2) (sd_bit0 (Or.inr (by decide)) (br_f (by decide) (br_f (by decide) (br_f (by decide) (br_t rfl (br_f (by decide) ⟨pk_in 0 6 (by omega), sd_bit 2 (by omega) (sd_rd 0 (by omega) h7) H⟩))))))⟩
end
section
variable {lv br wy am ap ad v : Int32} {a1 a2 a3 a4 a5 a6 a7 : Nat → Int32} {post : Int32 → St2 → Prop}
theorem sd_on {T P : Int32} {a b c : Nat → Int32} (hR : sd_R T P a b c 7) (j : Nat) (hj : j < 7) (h : sd_bt T j = true) : b j = 11 := (hR.1 j hj h).1
theorem sd_of {T P : Int32} {a b c : Nat → Int32} (hR : sd_R T P a b c 7) (j : Nat) {o : Int32} (hj : j < 7) (h : sd_bt T j = false) (ho : a j = o) : b j = o := by
  rw [(hR.2.1 j hj h).1]
  exact ho
/-! stepOff, an instruction each -/
theorem sd_s0 (hC : sd_C v a1 a2 a3) (H : ∀ c, post 1 (0, 7, 0, nI 1, 0, 1, br, wy, am, ap, ad, a1, a2, a3, c, upd a5 0 v, a6, a7)) : wpX_stepOff post (0, 7, 0, nI 0, 0, 0, br, wy, am, ap, ad, a1, a2, a3, a4, a5, a6, a7) :=
  sd_so 0 _ (by omega) hC (sd_su0 hC) (by decide) (fun P b c Q hR hq =>
    have h1 : b 0 = 0 := sd_of hR 0 (by omega) (by decide) hC.1.1
    Exists.intro 2 (sd_go 0 1 1 1 (by omega) (by decide) (sd_ne h1 (by decide)) (by decide) (sd_n8 h1 (by decide)) (by decide) (by decide) (by decide)
      (fun Q' => sd_c0 h1 hC.2.1.1 hC.2.2.1) (sd_trap 1 (by omega) (by decide) (sd_on hR 1 (by omega) (by decide)) hq))) H
theorem sd_s1 (hC : sd_C v a1 a2 a3) (H : ∀ c, post 1 (0, 7, 1, nI 4, 0, 2, br, wy, am, ap, ad, a1, a2, a3, c, a5, a6, upd a7 0 2)) : wpX_stepOff post (0, 7, 0, nI 1, 0, 1, br, wy, am, ap, ad, a1, a2, a3, a4, a5, a6, a7) :=
  sd_so 1 _ (by omega) hC (sd_su1 hC) (by decide) (fun P b c Q hR hq =>
    have h1 : b 1 = 7 := sd_of hR 1 (by omega) (by decide) hC.1.2.1
    Exists.intro 2 (sd_go 1 1 1 2 (by omega) (by decide) (sd_ne h1 (by decide)) (by decide) (sd_n8 h1 (by decide)) (by decide) (by decide) (by decide)
      (fun Q' => sd_c1 h1 hC.2.2.2.1) (sd_trap 4 (by omega) (by decide) (sd_on hR 4 (by omega) (by decide)) hq))) H
theorem sd_s2 {w : Int32} (hC : sd_C v a1 a2 a3) (hw : a5 1 + a5 0 = w) (H : ∀ c, post 1 (0, 7, 0, nI 3, 0, 6, br, wy, am, ap, ad, a1, a2, a3, c, upd a5 1 w, a6, a7)) : wpX_stepOff post (0, 7, 0, nI 2, 0, 5, br, wy, am, ap, ad, a1, a2, a3, a4, a5, a6, a7) :=
  sd_so 2 _ (by omega) hC (sd_su2 hC) (by decide) (fun P b c Q hR hq =>
    have h1 : b 2 = 1 := sd_of hR 2 (by omega) (by decide) hC.1.2.2.1
    Exists.intro 2 (sd_go 2 1 1 6 (by omega) (by decide) (sd_ne h1 (by decide)) (by decide) (sd_n8 h1 (by decide)) (by decide) (by decide) (by decide)
      (fun Q' => sd_c2 h1 hC.2.1.2.1 hC.2.2.2.2.1 hw) (sd_trap 3 (by omega) (by decide) (sd_on hR 3 (by omega) (by decide)) hq))) H
theorem sd_s3 (hC : sd_C v a1 a2 a3) (H : ∀ c, post 1 (0, 7, 0, nI 3, 1, 7, br, wy, am, ap, ad, a1, a2, a3, c, a5, a6, a7)) : wpX_stepOff post (0, 7, 0, nI 3, 0, 6, br, wy, am, ap, ad, a1, a2, a3, a4, a5, a6, a7) :=
  sd_so 3 _ (by omega) hC (sd_su3 hC) (by decide) (fun P b c Q hR hq =>
    have h1 : b 3 = 10 := sd_of hR 3 (by omega) (by decide) hC.1.2.2.2.1
    Exists.intro 2 (sd_go 3 1 1 7 (by omega) (by decide) (sd_ne h1 (by decide)) (by decide) (sd_n8 h1 (by decide)) (by decide) (by decide) (by decide)
      (fun Q' => sd_c3 h1) (sd_done (by decide) hq))) H
theorem sd_s4 {j : Nat} (hC : sd_C v a1 a2 a3) (hv : a5 0 = v) (hj : j < 8) (ej : v &&& 7 = nI j) (H : ∀ c, post 1 (0, 7, 1, nI 5, 0, 3, br, wy, am, ap, ad, a1, a2, a3, c, a5, upd a6 j v, a7)) : wpX_stepOff post (0, 7, 1, nI 4, 0, 2, br, wy, am, ap, ad, a1, a2, a3, a4, a5, a6, a7) :=
  sd_so 4 _ (by omega) hC (sd_su4 hC) (by decide) (fun P b c Q hR hq =>
    have h1 : b 4 = 4 := sd_of hR 4 (by omega) (by decide) hC.1.2.2.2.2.1
    Exists.intro 2 (sd_go 4 1 1 3 (by omega) (by decide) (sd_ne h1 (by decide)) (by decide) (sd_n8 h1 (by decide)) (by decide) (by decide) (by decide)
      (fun Q' => sd_c4 h1 hC.2.1.2.2.1 hC.2.2.2.2.2.1 hv hj ej) (sd_trap 5 (by omega) (by decide) (sd_on hR 5 (by omega) (by decide)) hq))) H
theorem sd_s5 {w : Int32} (hC : sd_C v a1 a2 a3) (hw : a5 2 - a5 0 = w) (H : ∀ c, post 1 (0, 7, 1, nI 6, 0, 4, br, wy, am, ap, ad, a1, a2, a3, c, upd a5 2 w, a6, a7)) : wpX_stepOff post (0, 7, 1, nI 5, 0, 3, br, wy, am, ap, ad, a1, a2, a3, a4, a5, a6, a7) :=
  sd_so 5 _ (by omega) hC (sd_su5 hC) (by decide) (fun P b c Q hR hq =>
    have h1 : b 5 = 2 := sd_of hR 5 (by omega) (by decide) hC.1.2.2.2.2.2.1
    Exists.intro 2 (sd_go 5 1 1 4 (by omega) (by decide) (sd_ne h1 (by decide)) (by decide) (sd_n8 h1 (by decide)) (by decide) (by decide) (by decide)
      (fun Q' => sd_c5 h1 hC.2.1.2.2.2 hC.2.2.2.2.2.2 hw) (sd_trap 6 (by omega) (by decide) (sd_on hR 6 (by omega) (by decide)) hq))) H
theorem sd_s6 (hC : sd_C v a1 a2 a3) (h7 : a7 0 = 2) (H : ∀ c, post 1 (0, 7, 0, nI 2, 0, 5, br, wy, am, ap, ad, a1, a2, a3, c, a5, a6, a7)) : wpX_stepOff post (0, 7, 1, nI 6, 0, 4, br, wy, am, ap, ad, a1, a2, a3, a4, a5, a6, a7) :=
  sd_so 6 _ (by omega) hC (sd_su6 hC h7) (by decide) (fun P b c Q hR hq =>
    have h1 : b 6 = 8 := sd_of hR 6 (by omega) (by decide) hC.1.2.2.2.2.2.2
    Exists.intro 2 (sd_go 6 1 1 5 (by omega) (by decide) (sd_ne h1 (by decide)) (by decide) sd_l8 (by decide) (by decide) (by decide)
      (fun Q' => sd_c6 h1 h7) (sd_trap 2 (by omega) (by decide) (sd_on hR 2 (by omega) (by decide)) hq))) H
end
end
section
theorem sd_pf {B : Int32} {i j : Nat} (hi : i < 32) (hj : j < 32) (ne : ¬ j = i) (h : sd_bt B j = false) : sd_bt (B ||| ((1 : Int32) <<< (nI i &&& 31))) j = false := by
  rw [sd_put B hi hj, h]
  simp [ne]
theorem sd_pt {B : Int32} {i : Nat} (hi : i < 32) : sd_bt (B ||| ((1 : Int32) <<< (nI i &&& 31))) i = true := by
  rw [sd_put B hi hi]
  simp
theorem sd_pb {B : Int32} {i j : Nat} (hi : i < 32) (hj : j < 32) (h : sd_bt B j = true) : sd_bt (B ||| ((1 : Int32) <<< (nI i &&& 31))) j = true := by
  rw [sd_put B hi hj, h]
  rfl
section
variable {pl lv pc ov ct br wy am ap ad x2 x3 x4 tmp v w to : Int32} {a1 a2 a3 a4 a5 a6 a7 : Nat → Int32} {post : Int32 → St2 → Prop} {n j : Nat}
theorem sd_run0 (k : Nat) (hk : k < 7) (hw : wy < 4) (hl : ¬ 6 ≤ lv) (h8 : ¬ (a1 k = 8 ∧ lv = 0)) (H : ∃ n, wX_run_24 post tmp n 0 0 0 pl 7 lv (nI k) 0 ct br wy am ap ad a1 a2 a3 a4 a5 a6 a7) : wpX_run post (pl, 7, lv, nI k, 0, ct, br, wy, am, ap, ad, a1, a2, a3, a4, a5, a6, a7) tmp := by
  unfold wpX_run
  exact br_t hw (sd_j0 k hk hl h8 H)
theorem sd_end (h : ¬ x3 = 0) (H : post x3 (pl, 7, lv, pc, ov, ct, br, x3, am, ap, ad, a1, a2, a3, a4, a5, a6, a7)) : wX_run_24 post tmp (n + 1) x2 x3 x4 pl 7 lv pc ov ct br wy am ap ad a1 a2 a3 a4 a5 a6 a7 :=
  br_c (fun _ => H) (fun _ => br_f h H)
theorem sd_goTo1 (hC : sd_C v a1 a2 a3) (H : ∀ c, post 1 (0, 7, 0, nI 1, 0, 1, 0, 1, 2, 1, ad, a1, a2, a3, c, upd a5 0 v, a6, a7)) :
    wpX_goTo post (0, 7, 0, nI 0, 0, 0, 0, 0, am, ap, ad, a1, a2, a3, a4, a5, a6, a7) 1 := by
  unfold wpX_goTo
  exact sd_bit 1 (by omega) rfl (sd_run0 0 (by omega) (by decide) (by decide) (sd_n8 hC.1.1 (by decide)) ⟨2, br_f (by decide) (br_t rfl (sd_s0 hC (fun c => nm_r (e' := 1) (by decide)
    (sd_j1 1 (by omega) (by decide) (sd_n8 hC.1.2.1 (by decide)) (by decide) (sd_a2t rfl) (br_f (by decide) (nm_e (sd_end (by decide) (H c))))))))⟩)
/-! stepOver at the call -/
theorem sd_over (hC : sd_C v a1 a2 a3) (H : wX_stepOver_80 post ((1 : Int32) <<< (nI 2 &&& 31)) 0 7 0 (nI 1) 0 1 br 1 3 (nI 2) 0 a1 a2 a3 a4 a5 a6 a7) :
    wpX_stepOver post (0, 7, 0, nI 1, 0, 1, br, 1, am, ap, ad, a1, a2, a3, a4, a5, a6, a7) := by
  have t : wX_stepOver_41 post 1 3 0 7 0 (nI 1) 0 1 br 1 am ap ad a1 a2 a3 a4 a5 a6 a7 := by
    unfold wX_stepOver_41
    exact nm_r (nI_1 1) (br_f (by decide) (sd_bit 2 (by omega) rfl H))
  have t2 : wX_stepOver_30 post 1 0 7 0 (nI 1) 0 1 br 1 am ap ad a1 a2 a3 a4 a5 a6 a7 := by
    unfold wX_stepOver_30
    exact br_f (by decide) t
  unfold wpX_stepOver
  exact sd_in 1 (by omega) rfl (br_f (by decide) ⟨pk_in 1 20 (by omega), br_t (sd_rd 1 (by omega) hC.1.2.1) t2⟩)
theorem sd_overN (hC : sd_C v a1 a2 a3) (hv : a5 0 = v) (hw : a5 2 - a5 0 = w) (hj : j < 8) (ej : v &&& 7 = nI j) (b4 : sd_bt br 4 = false) (b5 : sd_bt br 5 = false) (b6 : sd_bt br 6 = false)
    (H : ∀ c, post 1 (0, 7, 0, nI 2, 0, 5, br, 1, 3, nI 2, 0, a1, a2, a3, c, upd a5 2 w, upd a6 j v, upd a7 0 2)) :
    wpX_stepOver post (0, 7, 0, nI 1, 0, 1, br, 1, am, ap, ad, a1, a2, a3, a4, a5, a6, a7) := by
  refine sd_over hC ?_
  unfold wX_stepOver_80
  refine sd_run0 1 (by omega) (by decide) (by decide) (sd_n8 hC.1.2.1 (by decide)) ⟨2, br_f (by decide) (br_t rfl (sd_s1 hC (fun c => nm_r (e' := 1) (by decide)
    (sd_jf 4 (by omega) (by decide) (sd_n8 hC.1.2.2.2.2.1 (by decide)) (by decide) (by decide) (sd_a3f (by decide)) b4 (br_t rfl (sd_plant _ (fun P b d hR => ?_)))))))⟩
  have h4 : b 4 = 4 := sd_of hR 4 (by omega) (sd_pf (by omega) (by omega) (by omega) b4) hC.1.2.2.2.2.1
  have h5 : b 5 = 2 := sd_of hR 5 (by omega) (sd_pf (by omega) (by omega) (by omega) b5) hC.1.2.2.2.2.2.1
  have h6 : b 6 = 8 := sd_of hR 6 (by omega) (sd_pf (by omega) (by omega) (by omega) b6) hC.1.2.2.2.2.2.2
  have h2 : b 2 = 11 := sd_on hR 2 (by omega) (sd_pt (by omega))
  exact Exists.intro 4 (sd_go 4 1 1 3 (by omega) (by decide) (sd_ne h4 (by decide)) (by decide) (sd_n8 h4 (by decide)) (by decide) (by decide) (by decide) (fun Q' => sd_c4 h4 hC.2.1.2.2.1 hC.2.2.2.2.2.1 hv hj ej)
    (sd_go 5 2 2 4 (by omega) (by decide) (sd_ne h5 (by decide)) (by decide) (sd_n8 h5 (by decide)) (by decide) (by decide) (by decide) (fun Q' => sd_c5 h5 hC.2.1.2.2.2 hC.2.2.2.2.2.2 hw)
    (sd_go 6 3 3 5 (by omega) (by decide) (sd_ne h6 (by decide)) (by decide) sd_l8 (by decide) (by decide) (by decide) (fun Q' => sd_c6 h6 pk_us)
    (sd_trap 2 (by omega) (by decide) h2 (nm_r (e' := 4) (by decide) (sd_lift hR (sd_nar hC) (sd_j1 2 (by omega) (by decide) (sd_n8 hC.1.2.2.1 (by decide)) (by decide) (sd_a3t rfl rfl) (nm_e (sd_end (by decide) (H d))))))))))
theorem sd_over4 (hC : sd_C v a1 a2 a3) (b4 : sd_bt br 4 = true)
    (H : ∀ c, post 2 (0, 7, 1, nI 4, 0, 2, br, 2, 3, nI 2, 0, a1, a2, a3, c, a5, a6, upd a7 0 2)) :
    wpX_stepOver post (0, 7, 0, nI 1, 0, 1, br, 1, am, ap, ad, a1, a2, a3, a4, a5, a6, a7) := by
  refine sd_over hC ?_
  unfold wX_stepOver_80
  exact sd_run0 1 (by omega) (by decide) (by decide) (sd_n8 hC.1.2.1 (by decide)) ⟨2, br_f (by decide) (br_t rfl (sd_s1 hC (fun c => nm_r (e' := 1) (by decide)
    (sd_j2 4 (by omega) (by decide) (sd_n8 hC.1.2.2.2.2.1 (by decide)) (by decide) (sd_a3f (by decide)) b4 (br_f (by decide) (nm_e (sd_end (by decide) (H c))))))))⟩
theorem sd_over5 (hC : sd_C v a1 a2 a3) (hv : a5 0 = v) (hj : j < 8) (ej : v &&& 7 = nI j) (b4 : sd_bt br 4 = false) (b5 : sd_bt br 5 = true)
    (H : ∀ c, post 2 (0, 7, 1, nI 5, 0, 3, br, 2, 3, nI 2, 0, a1, a2, a3, c, a5, upd a6 j v, upd a7 0 2)) :
    wpX_stepOver post (0, 7, 0, nI 1, 0, 1, br, 1, am, ap, ad, a1, a2, a3, a4, a5, a6, a7) := by
  refine sd_over hC ?_
  unfold wX_stepOver_80
  refine sd_run0 1 (by omega) (by decide) (by decide) (sd_n8 hC.1.2.1 (by decide)) ⟨2, br_f (by decide) (br_t rfl (sd_s1 hC (fun c => nm_r (e' := 1) (by decide)
    (sd_jf 4 (by omega) (by decide) (sd_n8 hC.1.2.2.2.2.1 (by decide)) (by decide) (by decide) (sd_a3f (by decide)) b4 (br_t rfl (sd_plant _ (fun P b d hR => ?_)))))))⟩
  have h4 : b 4 = 4 := sd_of hR 4 (by omega) (sd_pf (by omega) (by omega) (by omega) b4) hC.1.2.2.2.2.1
  have h5 : b 5 = 11 := sd_on hR 5 (by omega) (sd_pb (by omega) (by omega) b5)
  exact Exists.intro 2 (sd_go 4 1 1 3 (by omega) (by decide) (sd_ne h4 (by decide)) (by decide) (sd_n8 h4 (by decide)) (by decide) (by decide) (by decide) (fun Q' => sd_c4 h4 hC.2.1.2.2.1 hC.2.2.2.2.2.1 hv hj ej)
    (sd_trap 5 (by omega) (by decide) h5 (nm_r (e' := 2) (by decide) (sd_lift hR (sd_nar hC) (sd_j2 5 (by omega) (by decide) (sd_n8 hC.1.2.2.2.2.2.1 (by decide)) (by decide) (sd_a3f (by decide)) b5 (nm_e (sd_end (by decide) (H d))))))))
theorem sd_over6 (hC : sd_C v a1 a2 a3) (hv : a5 0 = v) (hw : a5 2 - a5 0 = w) (hj : j < 8) (ej : v &&& 7 = nI j) (b4 : sd_bt br 4 = false) (b5 : sd_bt br 5 = false) (b6 : sd_bt br 6 = true)
    (H : ∀ c, post 2 (0, 7, 1, nI 6, 0, 4, br, 2, 3, nI 2, 0, a1, a2, a3, c, upd a5 2 w, upd a6 j v, upd a7 0 2)) :
    wpX_stepOver post (0, 7, 0, nI 1, 0, 1, br, 1, am, ap, ad, a1, a2, a3, a4, a5, a6, a7) := by
  refine sd_over hC ?_
  unfold wX_stepOver_80
  refine sd_run0 1 (by omega) (by decide) (by decide) (sd_n8 hC.1.2.1 (by decide)) ⟨2, br_f (by decide) (br_t rfl (sd_s1 hC (fun c => nm_r (e' := 1) (by decide)
    (sd_jf 4 (by omega) (by decide) (sd_n8 hC.1.2.2.2.2.1 (by decide)) (by decide) (by decide) (sd_a3f (by decide)) b4 (br_t rfl (sd_plant _ (fun P b d hR => ?_)))))))⟩
  have h4 : b 4 = 4 := sd_of hR 4 (by omega) (sd_pf (by omega) (by omega) (by omega) b4) hC.1.2.2.2.2.1
  have h5 : b 5 = 2 := sd_of hR 5 (by omega) (sd_pf (by omega) (by omega) (by omega) b5) hC.1.2.2.2.2.2.1
  have h6 : b 6 = 11 := sd_on hR 6 (by omega) (sd_pb (by omega) (by omega) b6)
  exact Exists.intro 3 (sd_go 4 1 1 3 (by omega) (by decide) (sd_ne h4 (by decide)) (by decide) (sd_n8 h4 (by decide)) (by decide) (by decide) (by decide) (fun Q' => sd_c4 h4 hC.2.1.2.2.1 hC.2.2.2.2.2.1 hv hj ej)
    (sd_go 5 2 2 4 (by omega) (by decide) (sd_ne h5 (by decide)) (by decide) (sd_n8 h5 (by decide)) (by decide) (by decide) (by decide) (fun Q' => sd_c5 h5 hC.2.1.2.2.2 hC.2.2.2.2.2.2 hw)
    (sd_trap 6 (by omega) (by decide) h6 (nm_r (e' := 3) (by decide) (sd_lift hR (sd_nar hC) (sd_j2 6 (by omega) (by decide) sd_l8 (by decide) (sd_a3f (by decide)) b6 (nm_e (sd_end (by decide) (H d)))))))))
/-! stepOut, from 4, 5 and 6; no breaks -/
theorem sd_outf (h7 : a7 0 = 2) (H : wX_stepOut_39 post ((1 : Int32) <<< (nI 2 &&& 31)) 0 7 1 pc ov ct br wy 4 ap 1 a1 a2 a3 a4 a5 a6 a7) : wpX_stepOut post (0, 7, 1, pc, ov, ct, br, wy, am, ap, ad, a1, a2, a3, a4, a5, a6, a7) := by
  unfold wpX_stepOut
  exact br_f (by decide) ⟨pk_in 0 6 (by omega), sd_bit 2 (by omega) (sd_rd 0 (by omega) h7) H⟩
theorem sd_out4 (hC : sd_C v a1 a2 a3) (h7 : a7 0 = 2) (hv : a5 0 = v) (hw : a5 2 - a5 0 = w) (hj : j < 8) (ej : v &&& 7 = nI j)
    (H : ∀ c, post 1 (0, 7, 0, nI 2, 0, 5, 0, 1, 4, ap, 1, a1, a2, a3, c, upd a5 2 w, upd a6 j v, a7)) :
    wpX_stepOut post (0, 7, 1, nI 4, 0, 2, 0, 2, am, ap, ad, a1, a2, a3, a4, a5, a6, a7) := by
  refine sd_outf h7 ?_
  unfold wX_stepOut_39
  refine sd_run0 4 (by omega) (by decide) (by decide) (sd_n8 hC.1.2.2.2.2.1 (by decide)) ⟨2, br_f (by decide) (br_t rfl (sd_s4 hC hv hj ej (fun c => nm_r (e' := 1) (by decide)
    (sd_jf 5 (by omega) (by decide) (sd_n8 hC.1.2.2.2.2.2.1 (by decide)) (by decide) (by decide) (sd_a4f (by decide)) (sd_0 5) (br_t rfl (sd_plant _ (fun P b d hR => ?_)))))))⟩
  have h5 : b 5 = 2 := sd_of hR 5 (by omega) (sd_pf (by omega) (by omega) (by omega) (sd_0 5)) hC.1.2.2.2.2.2.1
  have h6 : b 6 = 8 := sd_of hR 6 (by omega) (sd_pf (by omega) (by omega) (by omega) (sd_0 6)) hC.1.2.2.2.2.2.2
  have h2 : b 2 = 11 := sd_on hR 2 (by omega) (sd_pt (by omega))
  exact Exists.intro 3 (sd_go 5 1 1 4 (by omega) (by decide) (sd_ne h5 (by decide)) (by decide) (sd_n8 h5 (by decide)) (by decide) (by decide) (by decide) (fun Q' => sd_c5 h5 hC.2.1.2.2.2 hC.2.2.2.2.2.2 hw)
    (sd_go 6 2 2 5 (by omega) (by decide) (sd_ne h6 (by decide)) (by decide) sd_l8 (by decide) (by decide) (by decide) (fun Q' => sd_c6 h6 h7)
    (sd_trap 2 (by omega) (by decide) h2 (nm_r (e' := 3) (by decide) (sd_lift hR (sd_nar hC) (sd_j1 2 (by omega) (by decide) (sd_n8 hC.1.2.2.1 (by decide)) (by decide) (sd_a4t (by decide)) (nm_e (sd_end (by decide) (H d)))))))))
theorem sd_out5 (hC : sd_C v a1 a2 a3) (h7 : a7 0 = 2) (hw : a5 2 - a5 0 = w)
    (H : ∀ c, post 1 (0, 7, 0, nI 2, 0, 5, 0, 1, 4, ap, 1, a1, a2, a3, c, upd a5 2 w, a6, a7)) :
    wpX_stepOut post (0, 7, 1, nI 5, 0, 3, 0, 2, am, ap, ad, a1, a2, a3, a4, a5, a6, a7) := by
  refine sd_outf h7 ?_
  unfold wX_stepOut_39
  refine sd_run0 5 (by omega) (by decide) (by decide) (sd_n8 hC.1.2.2.2.2.2.1 (by decide)) ⟨2, br_f (by decide) (br_t rfl (sd_s5 hC hw (fun c => nm_r (e' := 1) (by decide)
    (sd_jf 6 (by omega) (by decide) sd_l8 (by decide) (by decide) (sd_a4f (by decide)) (sd_0 6) (br_t rfl (sd_plant _ (fun P b d hR => ?_)))))))⟩
  have h6 : b 6 = 8 := sd_of hR 6 (by omega) (sd_pf (by omega) (by omega) (by omega) (sd_0 6)) hC.1.2.2.2.2.2.2
  have h2 : b 2 = 11 := sd_on hR 2 (by omega) (sd_pt (by omega))
  exact Exists.intro 2 (sd_go 6 1 1 5 (by omega) (by decide) (sd_ne h6 (by decide)) (by decide) sd_l8 (by decide) (by decide) (by decide) (fun Q' => sd_c6 h6 h7)
    (sd_trap 2 (by omega) (by decide) h2 (nm_r (e' := 2) (by decide) (sd_lift hR (sd_nar hC) (sd_j1 2 (by omega) (by decide) (sd_n8 hC.1.2.2.1 (by decide)) (by decide) (sd_a4t (by decide)) (nm_e (sd_end (by decide) (H d))))))))
theorem sd_out6 (hC : sd_C v a1 a2 a3) (h7 : a7 0 = 2)
    (H : ∀ c, post 1 (0, 7, 0, nI 2, 0, 5, 0, 1, 4, ap, 1, a1, a2, a3, c, a5, a6, a7)) :
    wpX_stepOut post (0, 7, 1, nI 6, 0, 4, 0, 2, am, ap, ad, a1, a2, a3, a4, a5, a6, a7) := by
  refine sd_outf h7 ?_
  unfold wX_stepOut_39
  exact sd_run0 6 (by omega) (by decide) (by decide) sd_l8 ⟨2, br_f (by decide) (br_t rfl (sd_s6 hC h7 (fun c => nm_r (e' := 1) (by decide)
    (sd_j1 2 (by omega) (by decide) (sd_n8 hC.1.2.2.1 (by decide)) (by decide) (sd_a4t (by decide)) (br_f (by decide) (nm_e (sd_end (by decide) (H c))))))))⟩
/-! goTo from 2: to 3, or not; no breaks -/
theorem sd_goTo3 (hC : sd_C v a1 a2 a3) (hw : a5 1 + a5 0 = w) (H : ∀ c, post 1 (0, 7, 0, nI 3, 0, 6, 0, 1, 2, 3, ad, a1, a2, a3, c, upd a5 1 w, a6, a7)) :
    wpX_goTo post (0, 7, 0, nI 2, 0, 5, 0, 1, am, ap, ad, a1, a2, a3, a4, a5, a6, a7) 3 := by
  unfold wpX_goTo
  exact sd_bit 3 (by omega) rfl (sd_run0 2 (by omega) (by decide) (by decide) (sd_n8 hC.1.2.2.1 (by decide)) ⟨2, br_f (by decide) (br_t rfl (sd_s2 hC hw (fun c => nm_r (e' := 1) (by decide)
    (sd_j1 3 (by omega) (by decide) (sd_n8 hC.1.2.2.2.1 (by decide)) (by decide) (sd_a2t rfl) (br_f (by decide) (nm_e (sd_end (by decide) (H c))))))))⟩)
theorem sd_goToR (T : Int32) (hT : sd_bt (0 ||| T) 3 = false) (hC : sd_C v a1 a2 a3) (hw : a5 1 + a5 0 = w) (ht : ¬ nI 3 = to) (H : ∀ c, post 6 (0, 7, 0, nI 3, 1, 7, 0, 6, 2, to, ad, a1, a2, a3, c, upd a5 1 w, a6, a7)) :
    wpX_run post (0, 7, 0, nI 2, 0, 5, 0, 1, 2, to, ad, a1, a2, a3, a4, a5, a6, a7) T := by
  refine sd_run0 2 (by omega) (by decide) (by decide) (sd_n8 hC.1.2.2.1 (by decide)) ⟨2, br_f (by decide) (br_t rfl (sd_s2 hC hw (fun c => nm_r (e' := 1) (by decide)
    (sd_jf 3 (by omega) (by decide) (sd_n8 hC.1.2.2.2.1 (by decide)) (by decide) (by decide) (sd_a2f ht) (sd_0 3) (br_t rfl (sd_plant _ (fun P b d hR => ?_)))))))⟩
  have h3 : b 3 = 10 := sd_of hR 3 (by omega) hT hC.1.2.2.2.1
  exact Exists.intro 2 (sd_go 3 1 1 7 (by omega) (by decide) (sd_ne h3 (by decide)) (by decide) (sd_n8 h3 (by decide)) (by decide) (by decide) (by decide) (fun Q' => sd_c3 h3)
    (sd_done (by decide) (nm_r (e' := 2) (by decide) (sd_lift hR (sd_nar hC) (sd_j6 (nm_e (sd_end (by decide) (H d))))))))
theorem sd_goToN (hC : sd_C v a1 a2 a3) (hw : a5 1 + a5 0 = w) (ht : ¬ to = 3) (H : ∀ c, post 6 (0, 7, 0, nI 3, 1, 7, 0, 6, 2, to, ad, a1, a2, a3, c, upd a5 1 w, a6, a7)) :
    wpX_goTo post (0, 7, 0, nI 2, 0, 5, 0, 1, am, ap, ad, a1, a2, a3, a4, a5, a6, a7) to := by
  have ht' : ¬ nI 3 = to := fun z => ht z.symm
  unfold wpX_goTo
  rcases pk_ix to (n := 7) (by decide) with h | h | ⟨k, hk, e⟩
  · exact sd_bit0 (Or.inl h) (sd_goToR 0 (by decide) hC hw ht' H)
  · exact sd_bit0 (Or.inr h) (sd_goToR 0 (by decide) hC hw ht' H)
  · have k3 : ¬ 3 = k := fun z => ht (by rw [e, ← z]; rfl)
    exact sd_bit k hk e (sd_goToR _ (sd_pf (by omega) (by omega) k3 (sd_0 3)) hC hw ht' H)
/-! go: at the end's instruction, or behind it -/
theorem sd_go3 (hC : sd_C v a1 a2 a3) (H : ∀ c, post 6 (0, 7, 0, nI 3, 1, 7, 0, 6, 0, ap, ad, a1, a2, a3, c, a5, a6, a7)) :
    wpX_go post (0, 7, 0, nI 3, 0, 6, 0, 1, am, ap, ad, a1, a2, a3, a4, a5, a6, a7) := by
  unfold wpX_go
  exact sd_run0 3 (by omega) (by decide) (by decide) (sd_n8 hC.1.2.2.2.1 (by decide)) ⟨2, br_f (by decide) (br_t rfl (sd_s3 hC (fun c => nm_r (e' := 1) (by decide)
    (sd_j6 (br_f (by decide) (nm_e (sd_end (by decide) (H c))))))))⟩
theorem sd_goE (H : post 6 (pl, 7, lv, pc, ov, ct, br, 6, 0, ap, ad, a1, a2, a3, a4, a5, a6, a7)) : wpX_go post (pl, 7, lv, pc, ov, ct, br, 6, am, ap, ad, a1, a2, a3, a4, a5, a6, a7) := by
  unfold wpX_go
  exact br_f (by decide) H
end
end
section
section
variable {pl lv pc ov ct br wy am ap ad p v : Int32} {a1 a2 a3 a4 a5 a6 a7 : Nat → Int32}
/-! emit, peek, breakAt -/
theorem sd_emit {o a b : Int32} {post : Int32 → St2 → Prop} (k : Nat) (hk : k < 20) (h0 : ¬ o < 0) (h1 : o ≤ 10) (ha : ¬ a < 0) (ha3 : ¬ 3 < a) (hb : (o < 1 ∨ 4 < o) ∨ (¬ b < 0 ∧ b ≤ 3))
    (eo : o.toInt8.toInt32 = o) (ea : a.toInt8.toInt32 = a) (H : ∀ r, post r (pl, nI (k + 1), lv, pc, ov, ct, br, wy, am, ap, ad, upd a1 k o, upd a2 k a, upd a3 k b, a4, a5, a6, a7)) : wpX_emit post (pl, nI k, lv, pc, ov, ct, br, wy, am, ap, ad, a1, a2, a3, a4, a5, a6, a7) o a b := by
  have t : wX_emit_67 post o a b pl (nI k) lv pc ov ct br wy am ap ad a1 a2 a3 a4 a5 a6 a7 := by
    unfold wX_emit_67
    exact ⟨pk_in k 20 hk, nm_r (e' := upd a1 k o) (by rw [nI_clamp (by omega), eo]) ⟨pk_in k 20 hk, nm_r (e' := upd a2 k a) (by rw [nI_clamp (by omega), ea]) ⟨pk_in k 20 hk, nm_r (e' := upd a3 k b) (by rw [nI_clamp (by omega)]) (nm_r (nI_1 k) (H _))⟩⟩⟩
  have t0 : wX_emit_39 post o a b 0 pl (nI k) lv pc ov ct br wy am ap ad a1 a2 a3 a4 a5 a6 a7 := by
    unfold wX_emit_39
    exact br_f ha (br_f ha3 (br_t rfl t))
  have t8 : wX_emit_38 post o a b pl (nI k) lv pc ov ct br wy am ap ad a1 a2 a3 a4 a5 a6 a7 := by
    unfold wX_emit_38
    exact t0
  unfold wpX_emit
  refine br_t (nI_lt (b := 20) hk (by decide)) (br_f h0 (br_t h1 ?_))
  rcases hb with hb | ⟨hb1, hb2⟩
  · exact br_c (fun _ => t8) (fun z => br_t (hb.resolve_left z) t8)
  · have t1 : wX_emit_39 post o a b 1 pl (nI k) lv pc ov ct br wy am ap ad a1 a2 a3 a4 a5 a6 a7 := by
      unfold wX_emit_39
      exact br_f ha (br_f ha3 (br_f (by decide) (br_f hb1 (br_t hb2 t))))
    exact br_c (fun _ => t8) (fun _ => br_c (fun _ => t8) (fun _ => t1))
theorem sd_peekR {post : Int32 → Prop} (k : Nat) (hk : k < 4) (h : a5 k = v) (H : post v) (hp : p = nI k := by rfl) : wpX_peek post (pl, 7, lv, pc, ov, ct, br, wy, am, ap, ad, a1, a2, a3, a4, a5, a6, a7) p := by
  subst hp
  unfold wpX_peek
  refine br_f (nI_pos (by omega)) (br_f (nI_ge (b := 4) hk (by decide)) ⟨pk_in k 4 hk, ?_⟩)
  rw [nI_clamp (by omega), h]
  exact H
theorem sd_peekM {post : Int32 → Prop} (j : Nat) (hj : j < 8) (h : a6 j = v) (hp : p = nI (8 + j)) (H : post v) : wpX_peek post (pl, 7, lv, pc, ov, ct, br, wy, am, ap, ad, a1, a2, a3, a4, a5, a6, a7) p := by
  subst hp
  have e : nI (8 + j) - 8 = nI j := by
    rw [show (8 : Int32) = nI 8 from rfl, pk_sub (by omega), Nat.add_sub_cancel_left]
  have t : wX_peek_16 post (nI (8 + j)) pl 7 lv pc ov ct br wy am ap ad a1 a2 a3 a4 a5 a6 a7 := by
    unfold wX_peek_16
    refine br_f (nI_nlt (b := 8) (by omega) (by omega)) (br_f (nI_ge (b := 16) (by omega) (by decide)) ?_)
    rw [e, nI_clamp (by omega), h]
    exact ⟨pk_in j 8 hj, H⟩
  unfold wpX_peek
  exact br_f (nI_pos (by omega)) (br_t (nI_le (a := 4) (by omega) (by omega)) t)
theorem sd_peekT {post : Int32 → Prop} (h : a7 0 = v) (H : post v) : wpX_peek post (pl, 7, 1, pc, ov, ct, br, wy, am, ap, ad, a1, a2, a3, a4, a5, a6, a7) 16 := by
  have t : wX_peek_38 post 16 pl 7 1 pc ov ct br wy am ap ad a1 a2 a3 a4 a5 a6 a7 := by
    unfold wX_peek_38
    refine br_f (by decide) (br_f (by decide) ?_)
    rw [show (16 : Int32) - 16 = 0 from by decide, sd_k0, h]
    exact ⟨pk_in 0 6 (by omega), H⟩
  have t2 : wX_peek_16 post 16 pl 7 1 pc ov ct br wy am ap ad a1 a2 a3 a4 a5 a6 a7 := by
    unfold wX_peek_16
    exact br_f (by decide) (br_t (by decide) t)
  unfold wpX_peek
  exact br_f (by decide) (br_t (by decide) t2)
/-- clearing p leaves no break -/
def sd_B (p B : Int32) : Prop := (∃ k, k < 20 ∧ p = nI k ∧ B &&& (((1 : Int32) <<< (nI k &&& 31)) ^^^ (-1)) = 0) ∨ ((p < 0 ∨ 20 ≤ p) ∧ B = 0)
theorem sd_clear {B : Int32} {post : Int32 → St2 → Prop} (hB : sd_B p B) (H : ∀ r, post r (pl, 7, lv, pc, ov, ct, 0, wy, am, ap, ad, a1, a2, a3, a4, a5, a6, a7)) : wpX_breakAt post (pl, 7, lv, pc, ov, ct, B, wy, am, ap, ad, a1, a2, a3, a4, a5, a6, a7) p 0 := by
  unfold wpX_breakAt
  rcases hB with ⟨k, hk, rfl, e⟩ | ⟨h, rfl⟩
  · exact br_f (nI_pos (by omega)) (br_t (nI_lt (b := 20) hk (by decide)) (br_t rfl (nm_r e (H 1))))
  · exact br_c (fun _ => H 0) (fun z => br_f (Int32.not_lt.mpr (h.resolve_left z)) (H 0))
theorem sd_set {post : Int32 → St2 → Prop} (k : Nat) (hk : k < 20) (H : post 1 (pl, 7, lv, pc, ov, ct, (0 : Int32) ||| ((1 : Int32) <<< (nI k &&& 31)), wy, am, ap, ad, a1, a2, a3, a4, a5, a6, a7)) : wpX_breakAt post (pl, 7, lv, pc, ov, ct, 0, wy, am, ap, ad, a1, a2, a3, a4, a5, a6, a7) (nI k) 1 := by
  unfold wpX_breakAt
  exact br_f (nI_pos (by omega)) (br_t (nI_lt (b := 20) hk (by decide)) (br_f (by decide) (nm_e H)))
theorem sd_setN {post : Int32 → St2 → Prop} (h : p < 0 ∨ 20 ≤ p) (H : post 0 (pl, 7, lv, pc, ov, ct, 0, wy, am, ap, ad, a1, a2, a3, a4, a5, a6, a7)) : wpX_breakAt post (pl, 7, lv, pc, ov, ct, 0, wy, am, ap, ad, a1, a2, a3, a4, a5, a6, a7) p 1 := by
  unfold wpX_breakAt
  exact br_c (fun _ => H) (fun z => br_f (Int32.not_lt.mpr (h.resolve_left z)) H)
theorem sd_init {post : St2 → Prop} (H : post (0, 0, 0, 0, 0, 0, 0, 0, 0, 0, 0, (fun _ => 0), (fun _ => 0), (fun _ => 0), (fun _ => 0), (fun _ => 0), (fun _ => 0), (fun _ => 0))) : wpX_init post 7 98 (0, 0, 0, 0, 0, 0, 0, 0, 0, 0, 0) := by
  unfold wpX_init
  exact ⟨by decide, by decide, by decide, by decide, by decide, by decide, by decide, by decide, by decide, by decide, by decide, by decide, by decide, by decide, H⟩
end
end
section
section
variable {lv pc ov ct br wy am ap ad x p to : Int32} {a1 a2 a3 a4 a5 a6 a7 b5 b6 : Nat → Int32} {post : Int32 → St0 → Prop} {mc ms kc ks : Nat}
/-! the law from behind: go; what stands behind goTo(to); what stands behind the call -/
theorem sd_407a (hp : post 1 ()) (hC : sd_C x a1 a2 a3) : wL_lawOf_407 post mc ms 1 kc ks 0 7 0 (nI 3) 0 6 0 1 am ap ad a1 a2 a3 a4 a5 a6 a7 := by
  unfold wL_lawOf_407
  exact sd_go3 hC (fun c => br_f (by decide) (br_t rfl (br_t rfl (br_t rfl hp))))
theorem sd_407b (hp : post 1 ()) : wL_lawOf_407 post mc ms 1 kc ks 0 7 0 (nI 3) 1 7 0 6 am ap ad a1 a2 a3 a4 a5 a6 a7 := by
  unfold wL_lawOf_407
  exact sd_goE (br_f (by decide) (br_t rfl (br_t rfl (br_t rfl hp))))
theorem sd_343a (hp : post 1 ()) (hC : sd_C x a1 a2 a3) (h1 : a5 1 = x) : wL_lawOf_343 post mc ms x 1 1 1 kc ks 0 7 0 (nI 3) 0 6 0 1 am ap ad a1 a2 a3 a4 a5 a6 a7 := by
  have t9 : wL_lawOf_399 post mc ms 6 6 kc ks 0 7 0 (nI 3) 0 6 0 1 am ap ad a1 a2 a3 a4 a5 a6 a7 := by
    unfold wL_lawOf_399
    exact br_t rfl (sd_407a hp hC)
  have t3 : wL_lawOf_363 post mc ms x 1 1 1 kc ks 0 7 0 (nI 3) 0 6 0 1 am ap ad a1 a2 a3 a4 a5 a6 a7 := by
    unfold wL_lawOf_363
    exact br_t rfl (br_t rfl (sd_peekR 1 (by omega) h1 (br_t rfl (br_f (by decide) t9))))
  unfold wL_lawOf_343
  exact br_f (by decide) (br_f (by decide) t3)
theorem sd_343b (hp : post 1 ()) (h1 : a5 1 = x) : wL_lawOf_343 post mc ms x 1 6 0 kc ks 0 7 0 (nI 3) 1 7 0 6 am ap ad a1 a2 a3 a4 a5 a6 a7 := by
  have t9 : wL_lawOf_399 post mc ms 7 7 kc ks 0 7 0 (nI 3) 1 7 0 6 am ap ad a1 a2 a3 a4 a5 a6 a7 := by
    unfold wL_lawOf_399
    exact br_t rfl (sd_407b hp)
  have t3 : wL_lawOf_363 post mc ms x 0 6 6 kc ks 0 7 0 (nI 3) 1 7 0 6 am ap ad a1 a2 a3 a4 a5 a6 a7 := by
    unfold wL_lawOf_363
    exact br_t rfl (br_t rfl (sd_peekR 1 (by omega) h1 (br_t rfl (br_t rfl t9))))
  unfold wL_lawOf_343
  exact br_f (by decide) (br_t rfl t3)
theorem sd_317 (hp : post 1 ()) (hC : sd_C x a1 a2 a3) (hw : a5 1 + a5 0 = x) (hB : sd_B p br) : wL_lawOf_317 post mc ms x p to 1 kc ks 0 7 0 (nI 2) 0 5 br 1 am ap ad a1 a2 a3 a4 a5 a6 a7 := by
  unfold wL_lawOf_317
  refine sd_clear hB (fun r => ?_)
  by_cases ht : to = 3
  · subst ht
    exact sd_goTo3 hC hw (fun c => br_t rfl (sd_343a hp hC pk_us))
  · exact sd_goToN hC hw ht (fun c => br_f ht (sd_343b hp pk_us))
theorem sd_251 {j : Nat} (hp : post 1 ()) (hC : sd_C x a1 a2 a3) (h0 : a5 0 = x) (h1 : a5 1 = 0) (h2 : a5 2 = -x) (hj : j < 8) (ej : x &&& 7 = nI j) (h6 : a6 j = x) (hB : sd_B p br) :
    wL_lawOf_251 post mc ms x p to 1 kc ks 0 7 0 (nI 2) 0 5 br 1 am ap ad a1 a2 a3 a4 a5 a6 a7 := by
  have hw : a5 1 + a5 0 = x := by
    rw [h0, h1]
    simp
  have e8 : 8 + (x &&& 7) = nI (8 + j) := by
    rw [ej]
    exact nI_add 8 j
  unfold wL_lawOf_251
  exact br_f (by decide) (br_t rfl (br_t rfl (br_t rfl (sd_peekM j hj h6 e8 (br_t rfl (sd_peekR 2 (by omega) h2 (br_t rfl (sd_peekR 1 (by omega) h1 (br_t rfl (sd_317 hp hC hw hB))))))))))
/-- stepOver came back behind the call -/
theorem sd_132 {r : Int32} (H : wL_lawOf_251 post mc ms x p to 1 kc ks 0 7 lv pc ov ct br wy am ap ad a1 a2 a3 a4 a5 a6 a7) : wL_lawOf_132 post mc ms x p to 1 r 1 kc ks 0 7 lv pc ov ct br wy am ap ad a1 a2 a3 a4 a5 a6 a7 := by
  have t : wL_lawOf_249 post mc ms x p to 1 kc ks 0 7 lv pc ov ct br wy am ap ad a1 a2 a3 a4 a5 a6 a7 := by
    unfold wL_lawOf_249
    exact H
  unfold wL_lawOf_132
  unfold wL_lawOf_133
  exact br_t rfl (br_f (by decide) (br_t rfl t))
/-- stepOver stood at a break -/
theorem sd_133 (k : Nat) (hB : sd_B (nI k) br) (hk : ct = nI k - 2) (h7 : a7 0 = 2)
    (Ho : ∀ (Q : Int32 → St2 → Prop), (∀ c, Q 1 (0, 7, 0, nI 2, 0, 5, 0, 1, 4, ap, 1, a1, a2, a3, c, b5, b6, a7)) → wpX_stepOut Q (0, 7, 1, nI k, 0, ct, 0, 2, am, ap, ad, a1, a2, a3, a4, a5, a6, a7))
    (H : ∀ c, wL_lawOf_251 post mc ms x (nI k) to 1 kc ks 0 7 0 (nI 2) 0 5 0 1 4 ap 1 a1 a2 a3 c b5 b6 a7) :
    wL_lawOf_133 post mc ms x (nI k) to 1 1 2 1 kc ks 0 7 1 (nI k) 0 ct br 2 am ap ad a1 a2 a3 a4 a5 a6 a7 := by
  have t : wL_lawOf_197 post mc ms x (nI k) to 1 kc ks 0 7 1 (nI k) 0 ct br 2 am ap ad a1 a2 a3 a4 a5 a6 a7 := by
    unfold wL_lawOf_197
    refine sd_clear hB (fun r => Ho _ (fun c => br_f (by decide) (br_t rfl ?_)))
    unfold wL_lawOf_228
    exact H c
  unfold wL_lawOf_133
  exact br_f (by decide) (br_f (by decide) (br_f (by decide) (br_t rfl (br_t rfl (br_t rfl (sd_peekT h7 (br_t rfl (br_t hk t))))))))
end
section
variable {am ap ad x p to : Int32} {a1 a2 a3 a4 : Nat → Int32} {post : Int32 → St0 → Prop} {mc ms kc ks : Nat}
def sd_z : Nat → Int32 := fun _ => 0
theorem sd_neg {y : Int32} : (0 : Int32) - y = -y := by simp
theorem sd_101 (hp : post 1 ()) (hC : sd_C x a1 a2 a3) : wL_lawOf_101 post mc ms x p to 1 kc ks 0 7 0 (nI 1) 0 1 0 1 am ap ad a1 a2 a3 a4 (upd sd_z 0 x) sd_z sd_z := by
  obtain ⟨j, hj, ej⟩ := pk_andE x (m := 7) 3 (by decide)
  have hj : j < 8 := hj
  have hw : upd sd_z 0 x 2 - upd sd_z 0 x 0 = -x := sd_neg
  have fin : ∀ {B am ap ad : Int32} {c a7 : Nat → Int32}, sd_B p B → wL_lawOf_251 post mc ms x p to 1 kc ks 0 7 0 (nI 2) 0 5 B 1 am ap ad a1 a2 a3 c (upd (upd sd_z 0 x) 2 (-x)) (upd sd_z j x) a7 :=
    fun hB => sd_251 hp hC rfl rfl rfl hj ej pk_us hB
  unfold wL_lawOf_101
  rcases pk_ix p (n := 20) (by decide) with h | h | ⟨k, hk, e⟩
  · exact sd_setN (Or.inl h) (sd_overN hC rfl hw hj ej (sd_0 4) (sd_0 5) (sd_0 6) (fun c =>
      br_t (Int32.lt_trans h (by decide)) (sd_132 (fin (Or.inr ⟨Or.inl h, rfl⟩)))))
  · exact sd_setN (Or.inr h) (sd_overN hC rfl hw hj ej (sd_0 4) (sd_0 5) (sd_0 6) (fun c =>
      br_c (fun _ => sd_132 (fin (Or.inr ⟨Or.inr h, rfl⟩))) (fun _ => br_t (Int32.lt_of_lt_of_le (by decide) h) (sd_132 (fin (Or.inr ⟨Or.inr h, rfl⟩))))))
  · subst e
    have hB : sd_B (nI k) ((0 : Int32) ||| ((1 : Int32) <<< (nI k &&& 31))) := Or.inl ⟨k, hk, rfl, sd_clr k hk⟩
    have hB0 : sd_B (nI k) 0 := Or.inl ⟨k, hk, rfl, sd_clr0 k hk⟩
    refine sd_set k hk ?_
    by_cases k4 : k = 4
    · subst k4
      exact sd_over4 hC (sd_pt (by omega)) (fun c => br_f (by decide) (br_f (by decide) (sd_133 4 hB (by decide) pk_us (fun Q hQ => sd_out4 hC pk_us rfl hw hj ej hQ) (fun c => fin hB0))))
    by_cases k5 : k = 5
    · subst k5
      exact sd_over5 hC rfl hj ej (sd_pf (by omega) (by omega) (by omega) (sd_0 4)) (sd_pt (by omega)) (fun c => br_f (by decide) (br_f (by decide) (sd_133 5 hB (by decide) pk_us (fun Q hQ => sd_out5 hC pk_us hw hQ) (fun c => fin hB0))))
    by_cases k6 : k = 6
    · subst k6
      exact sd_over6 hC rfl hw hj ej (sd_pf (by omega) (by omega) (by omega) (sd_0 4)) (sd_pf (by omega) (by omega) (by omega) (sd_0 5)) (sd_pt (by omega)) (fun c => br_f (by decide) (br_f (by decide) (sd_133 6 hB (by decide) pk_us (fun Q hQ => sd_out6 hC pk_us hQ) (fun c => fin hB0))))
    refine sd_overN hC rfl hw hj ej (sd_pf (by omega) (by omega) (by omega) (sd_0 4)) (sd_pf (by omega) (by omega) (by omega) (sd_0 5)) (sd_pf (by omega) (by omega) (by omega) (sd_0 6)) (fun c => ?_)
    rcases Nat.lt_or_ge k 4 with g | g
    · exact br_t (nI_lt (b := 4) g (by decide)) (sd_132 (fin hB))
    · exact br_f (nI_nlt (b := 4) g (by omega)) (br_t (nI_lt (a := 6) (by omega) (by omega)) (sd_132 (fin hB)))
theorem sd_lawOf (hp : post 1 ()) : wpL_lawOf post 54 848 () x p to := by
  unfold wpL_lawOf
  refine ⟨by decide, by decide, 7, 98, by decide, by decide, sd_init ?_⟩
  refine sd_emit 0 (by decide) (by decide) (by decide) (by decide) (by decide) (Or.inl (Or.inl (by decide))) (by decide) (by decide) (fun _ => ?_)
  refine sd_emit 1 (by decide) (by decide) (by decide) (by decide) (by decide) (Or.inl (Or.inr (by decide))) (by decide) (by decide) (fun _ => ?_)
  refine sd_emit 2 (by decide) (by decide) (by decide) (by decide) (by decide) (Or.inr ⟨by decide, by decide⟩) (by decide) (by decide) (fun _ => ?_)
  refine sd_emit 3 (by decide) (by decide) (by decide) (by decide) (by decide) (Or.inl (Or.inr (by decide))) (by decide) (by decide) (fun _ => ?_)
  refine sd_emit 4 (by decide) (by decide) (by decide) (by decide) (by decide) (Or.inr ⟨by decide, by decide⟩) (by decide) (by decide) (fun _ => ?_)
  refine sd_emit 5 (by decide) (by decide) (by decide) (by decide) (by decide) (Or.inr ⟨by decide, by decide⟩) (by decide) (by decide) (fun _ => ?_)
  refine sd_emit 6 (by decide) (by decide) (by decide) (by decide) (by decide) (Or.inl (Or.inr (by decide))) (by decide) (by decide) (fun _ => ?_)
  have hC : sd_C x (upd (upd (upd (upd (upd (upd (upd (fun _ => 0) 0 0) 1 7) 2 1) 3 10) 4 4) 5 2) 6 8) (upd (upd (upd (upd (upd (upd (upd (fun _ => 0) 0 0) 1 0) 2 1) 3 0) 4 0) 5 2) 6 0) (upd (upd (upd (upd (upd (upd (upd (fun _ => 0) 0 x) 1 4) 2 0) 3 0) 4 0) 5 0) 6 0) :=
    ⟨⟨rfl, rfl, rfl, rfl, rfl, rfl, rfl⟩, ⟨rfl, rfl, rfl, rfl⟩, rfl, rfl, rfl, rfl, rfl⟩
  exact sd_goTo1 hC (fun c => br_t rfl (br_t rfl (br_t rfl (sd_101 hp hC))))
end
end
section
theorem sd_cell {post : Int32 → Prop} {L : Nat} {xs : Nat → Int32} (hL : L ≤ 3) (k : Nat) (hk : k < 3) (H : ∀ y, post y) : wpL_cellAt post L xs () (nI k) := by
  unfold wpL_cellAt
  refine br_c (fun _ => H _) (fun h => ⟨?_, H _⟩)
  refine pk_in k L ?_ rfl (by omega)
  rcases Nat.lt_or_ge k L with g | g
  · exact g
  · exact absurd (nI_le g (by omega)) h
theorem i_vc (xs : Nat → Int32) (L : Nat) (hL : L ≤ 3) : wpL_law (fun r => r = 1) L xs := by
  unfold wpL_law
  exact sd_cell hL 0 (by omega) (fun x => sd_cell hL 1 (by omega) (fun p => sd_cell hL 2 (by omega) (fun to => ⟨54, 848, by decide, by decide, sd_lawOf rfl⟩)))
end
