section
theorem pk_us {f : Nat → Int32} {k : Nat} {x : Int32} : upd f k x k = x := if_pos rfl
theorem pk_un {f : Nat → Int32} {k j : Nat} {x : Int32} (h : j ≠ k) : upd f k x j = f j := if_neg h
theorem pk_sub {a b : Nat} (h : b ≤ a) : nI a - nI b = nI (a - b) := by
  obtain ⟨c, rfl⟩ : ∃ c, a = c + b := ⟨a - b, by omega⟩
  rw [← nI_add, Int32.add_sub_cancel, Nat.add_sub_cancel]
theorem pk_mul (a b : Nat) : nI a * nI b = nI (a * b) := (Int32.ofNat_mul a b).symm
theorem pk_div {a d : Nat} (ha : a < 2 ^ 31) (h0 : 0 < d) (hd : d < 2 ^ 31) : nI a / nI d = nI (a / d) := by
  apply Int32.toInt_inj.mp
  rw [lg_idiv_nonneg (by rw [nI_toInt ha]; omega) (by rw [nI_toInt hd]; omega), nI_toInt ha, nI_toInt hd, nI_toInt (Nat.lt_of_le_of_lt (Nat.div_le_self a d) ha)]
  first | rfl | exact (Int.natCast_ediv _ _).symm
theorem pk_rem {a d : Nat} (ha : a < 2 ^ 31) (h0 : 0 < d) (hd : d < 2 ^ 31) : nI a - nI a / nI d * nI d = nI (a % d) := by
  rw [pk_div ha h0 hd, pk_mul, pk_sub (Nat.div_mul_le_self a d)]
  exact congrArg nI (by have := Nat.div_add_mod' a d; omega)
theorem pk_tn {n : Nat} (h : n < 2 ^ 32) : (nI n).toBitVec.toNat = n := Nat.mod_eq_of_lt h
theorem pk_and (x : Int32) {m : Int32} (k : Nat) (hm : m.toBitVec.toNat = 2 ^ k - 1) : x &&& m = nI (x.toBitVec.toNat % 2 ^ k) := by
  apply Int32.toBitVec_inj.mp
  apply BitVec.eq_of_toNat_eq
  rw [Int32.toBitVec_and, BitVec.toNat_and, hm, Nat.and_two_pow_sub_one_eq_mod]
  show _ = (BitVec.ofNat 32 _).toNat
  rw [BitVec.toNat_ofNat]
  exact (Nat.mod_eq_of_lt (Nat.lt_of_le_of_lt (Nat.mod_le _ _) x.toBitVec.isLt)).symm
theorem pk_vb (z : Int32) : vp_nar .byte z.toInt8.toInt32 = z.toInt8.toInt32 := by rw [vp_nar_byte]; simp
theorem pk_vs (z : Int32) : vp_nar .short z.toInt16.toInt32 = z.toInt16.toInt32 := by rw [vp_nar_short]; simp
theorem pk_lT {n : Nat} (h : n < 2 ^ 63) : (lN n).toInt = (n : Int) := lg_ofNat_toInt h
theorem pk_lEQ {a b : Nat} (ha : a < 2 ^ 63) (hb : b < 2 ^ 63) : lN a = lN b ↔ a = b := by
  rw [← Int64.toInt_inj, pk_lT ha, pk_lT hb]; omega
theorem pk_loop {σ : Type} (W : Nat → Nat → σ → Prop) (I : Nat → σ → Prop) (e i0 : Nat) (s : σ) (hi : i0 ≤ e) (h0 : I i0 s) (hx : ∀ n s, I e s → W (n + 1) e s)
    (hs : ∀ n i s, i < e → I i s → (∀ s', I (i + 1) s' → W n (i + 1) s') → W (n + 1) i s) : ∃ n, W n i0 s :=
  ⟨e + 1, loop_i W I e hx hs (e + 1) i0 s hi (by omega) h0⟩
theorem pk_least (P : Nat → Prop) (h : ∃ k, P k) : ∃ k, P k ∧ ∀ j, j < k → ¬ P j := by
  obtain ⟨k, hk⟩ := h
  induction k using Nat.strongRecOn with
  | ind k ih =>
    by_cases e : ∃ j, j < k ∧ P j
    · obtain ⟨j, hj, pj⟩ := e
      exact ih j hj pj
    · exact ⟨k, hk, fun j hj pj => e ⟨j, hj, pj⟩⟩
def bt (x : Int32) (i : Nat) : Bool := x.toBitVec.getLsbD i
theorem b_ext {x y : Int32} (h : ∀ i, i < 32 → bt x i = bt y i) : x = y := Int32.toBitVec_inj.mp (BitVec.eq_of_getLsbD_eq (fun i hi => h i hi))
theorem b_or (x y : Int32) (i : Nat) : bt (x ||| y) i = (bt x i || bt y i) := by unfold bt; rw [Int32.toBitVec_or, BitVec.getLsbD_or]
theorem b_and (x y : Int32) (i : Nat) : bt (x &&& y) i = (bt x i && bt y i) := by unfold bt; rw [Int32.toBitVec_and, BitVec.getLsbD_and]
theorem b_xor (x y : Int32) (i : Nat) : bt (x ^^^ y) i = (bt x i ^^ bt y i) := by unfold bt; rw [Int32.toBitVec_xor, BitVec.getLsbD_xor]
theorem b_big {x : Int32} {i : Nat} (h : 32 ≤ i) : bt x i = false := BitVec.getLsbD_of_ge _ _ h
theorem b_255 (i : Nat) : bt 255 i = decide (i < 8) := by
  rcases Nat.lt_or_ge i 32 with h | h
  · exact (by decide +kernel : ∀ i, i < 32 → bt 255 i = decide (i < 8)) i h
  · rw [b_big h, decide_eq_false (by omega)]
theorem b_m1 : ∀ i, i < 32 → bt (-1) i = true := by decide +kernel
theorem b_0 (i : Nat) : bt 0 i = false := BitVec.getLsbD_zero
theorem s_l : ∀ n, n < 32 → ((nI n &&& 31).toBitVec.smod 32).toNat = n := by decide +kernel
theorem b_shl (n : Nat) (hn : n < 32) (x : Int32) {i : Nat} (hi : i < 32) : bt (x <<< (nI n &&& 31)) i = (decide (n ≤ i) && bt x (i - n)) := by
  unfold bt
  rw [Int32.toBitVec_shiftLeft]
  show (x.toBitVec <<< ((nI n &&& 31).toBitVec.smod 32).toNat).getLsbD i = _
  rw [s_l n hn, BitVec.getLsbD_shiftLeft]
  rcases Nat.lt_or_ge i n with h | h
  · simp [h, Nat.not_le.mpr h]
  · simp [hi, h, Nat.not_lt.mpr h]
theorem b_sshr (n : Nat) (hn : n < 32) (x : Int32) {i : Nat} (hi : i < 32) : bt (x >>> (nI n &&& 31)) i = if n + i < 32 then bt x (n + i) else bt x 31 := by
  unfold bt
  rw [Int32.toBitVec_shiftRight]
  show (x.toBitVec.sshiftRight ((nI n &&& 31).toBitVec.smod 32).toNat).getLsbD i = _
  rw [s_l n hn, BitVec.getLsbD_sshiftRight, BitVec.msb_eq_getLsbD_last]
  simp [hi]
noncomputable def b01 (P : Prop) : Nat := @ite Nat P (Classical.propDecidable P) 1 0
theorem b01_t {P : Prop} (h : P) : b01 P = 1 := by unfold b01; rw [if_pos h]
theorem b01_f {P : Prop} (h : ¬ P) : b01 P = 0 := by unfold b01; rw [if_neg h]
theorem b01_le (P : Prop) : b01 P ≤ 1 := by
  rcases Classical.em P with h | h
  · rw [b01_t h]; omega
  · rw [b01_f h]; omega
theorem b01_mono {P Q : Prop} (h : P → Q) : b01 P ≤ b01 Q := by
  rcases Classical.em P with hp | hp
  · rw [b01_t hp, b01_t (h hp)]; omega
  · rw [b01_f hp]; omega
noncomputable def cn (P : Nat → Prop) : Nat → Nat
  | 0 => 0
  | k + 1 => cn P k + b01 (P k)
theorem cn_mono {P Q : Nat → Prop} : ∀ {N : Nat}, (∀ k, k < N → P k → Q k) → cn P N ≤ cn Q N
  | 0, _ => Nat.le_refl _
  | N + 1, h => by
    have a := cn_mono (P := P) (Q := Q) (N := N) (fun k hk => h k (by omega))
    have b := b01_mono (h N (by omega))
    simp only [cn]; omega
theorem cn_lt {P Q : Nat → Prop} {a : Nat} (hp : ¬ P a) (hq : Q a) : ∀ {N : Nat}, (∀ k, k < N → P k → Q k) → a < N → cn P N < cn Q N
  | 0, _, h => by omega
  | N + 1, h, ha => by
    simp only [cn]
    rcases Nat.lt_or_ge a N with z | z
    · have x := cn_lt hp hq (N := N) (fun k hk => h k (by omega)) z
      have b := b01_mono (h N (by omega))
      omega
    · have e : a = N := by omega
      subst e
      have x := cn_mono (P := P) (Q := Q) (N := a) (fun k hk => h k (by omega))
      rw [b01_t hq, b01_f hp]; omega
theorem cn_le (P : Nat → Prop) : ∀ N, cn P N ≤ N
  | 0 => Nat.le_refl _
  | N + 1 => by have := cn_le P N; have := b01_le (P N); simp only [cn]; omega
theorem cn_eq {P Q : Nat → Prop} {N : Nat} (h : ∀ k, k < N → (P k ↔ Q k)) : cn P N = cn Q N :=
  Nat.le_antisymm (cn_mono fun k hk => (h k hk).mp) (cn_mono fun k hk => (h k hk).mpr)
end
section
/-! bits, small numbers, indices -/
theorem zb_1 (i : Nat) : bt 1 i = decide (i = 0) := by
  rcases Nat.lt_or_ge i 32 with h | h
  · exact (by decide +kernel : ∀ i, i < 32 → bt 1 i = decide (i = 0)) i h
  · rw [b_big h, decide_eq_false (by omega)]
theorem zb_v (x : Int32) {b : Nat} (hb : b < 32) : ((x >>> (nI b &&& 31)) &&& 1) = nI (bt x b).toNat := by
  apply b_ext
  intro i hi
  rw [b_and, b_sshr b hb x hi, zb_1]
  rcases Nat.eq_zero_or_pos i with h | h
  · subst h
    rw [Nat.add_zero, if_pos hb]
    cases bt x b
    · decide +kernel
    · decide +kernel
  · rw [decide_eq_false (by omega : ¬ i = 0), Bool.and_false]
    cases bt x b
    · exact (b_0 i).symm
    · exact ((zb_1 i).trans (decide_eq_false (by omega))).symm
theorem zb_n01 : ¬ (nI 1 = 0) := by decide +kernel
theorem zb_n10 : ¬ (nI 0 = 1) := by decide +kernel
theorem zb_10 : ¬ ((1 : Int32) = 0) := by decide
theorem zb_br0 {A B : Prop} {x : Int32} {b : Nat} (hb : b < 32) (f : bt x b = false → A) (t : bt x b = true → B) : (((x >>> (nI b &&& 31)) &&& 1) = 0 → A) ∧ (¬ ((x >>> (nI b &&& 31)) &&& 1) = 0 → B) := by
  rw [zb_v x hb]
  cases h : bt x b
  · exact br_t rfl (f h)
  · exact br_f zb_n01 (t h)
theorem zb_br1 {A B : Prop} {x : Int32} {b : Nat} (hb : b < 32) (t : bt x b = true → A) (f : bt x b = false → B) : (((x >>> (nI b &&& 31)) &&& 1) = 1 → A) ∧ (¬ ((x >>> (nI b &&& 31)) &&& 1) = 1 → B) := by
  rw [zb_v x hb]
  cases h : bt x b
  · exact br_f zb_n10 (f h)
  · exact br_t rfl (t h)
theorem zx_in {post : Int32 → Prop} {x : Int32} {b : Nat} (hb : b < 32) (f : bt x b = false → post 0) (t : bt x b = true → post 1) : wpX_in post x (nI b) := zb_br0 hb f t
theorem zx_inb {A B : Prop} {x : Int32} {b : Nat} (hb : b < 32) (f : bt x b = false → A) (t : bt x b = true → B) : wpX_in (fun r => ((r = 0 → A) ∧ (¬ r = 0 → B))) x (nI b) :=
  zx_in hb (fun h => br_t rfl (f h)) (fun h => br_f zb_10 (t h))
theorem zb_sh {b : Nat} (hb : b < 32) (j : Nat) : bt ((1 : Int32) <<< (nI b &&& 31)) j = decide (j = b) := by
  rcases Nat.lt_or_ge j 32 with h | h
  · rw [b_shl b hb 1 h, zb_1]
    by_cases e : j = b
    · subst e; simp
    · rw [decide_eq_false e]
      rcases Nat.lt_or_ge j b with g | g
      · rw [decide_eq_false (by omega : ¬ b ≤ j), Bool.false_and]
      · rw [decide_eq_false (by omega : ¬ j - b = 0), Bool.and_false]
  · rw [b_big h, decide_eq_false (by omega)]
theorem zb_sht {b : Nat} (hb : b < 32) (j : Nat) : bt ((1 : Int32) <<< (nI b &&& 31)) j = true ↔ j = b := by
  rw [zb_sh hb, decide_eq_true_eq]
theorem zb_orT {x : Int32} {b : Nat} (hb : b < 32) (h : bt x b = true) : x ||| ((1 : Int32) <<< (nI b &&& 31)) = x := by
  apply b_ext
  intro i _
  rw [b_or, zb_sh hb]
  by_cases e : i = b
  · subst e; rw [h]; rfl
  · rw [decide_eq_false e, Bool.or_false]
theorem zb_xorF {x : Int32} {b : Nat} (hb : b < 32) (h : bt x b = false) : x ^^^ ((1 : Int32) <<< (nI b &&& 31)) = x ||| ((1 : Int32) <<< (nI b &&& 31)) := by
  apply b_ext
  intro i _
  rw [b_or, b_xor, zb_sh hb]
  by_cases e : i = b
  · subst e; rw [h, decide_eq_true rfl]; rfl
  · rw [decide_eq_false e, Bool.or_false, Bool.xor_false]
theorem zb_xorT {x : Int32} {b : Nat} (hb : b < 32) (h : bt x b = true) : x ^^^ ((1 : Int32) <<< (nI b &&& 31)) = x &&& (((1 : Int32) <<< (nI b &&& 31)) ^^^ (-1)) := by
  apply b_ext
  intro i hi
  rw [b_and, b_xor, b_xor, zb_sh hb, b_m1 i hi]
  by_cases e : i = b
  · subst e; rw [h, decide_eq_true rfl]; rfl
  · rw [decide_eq_false e, Bool.xor_false, Bool.false_xor, Bool.and_true]
def zs_Sm (x : Int32) : Prop := ∀ j, 8 ≤ j → bt x j = false
theorem zs_num {x : Int32} (h : zs_Sm x) : ∃ m, m < 256 ∧ x = nI m := by
  have e : x &&& 255 = x := by
    apply b_ext
    intro i hi
    rw [b_and, b_255]
    rcases Nat.lt_or_ge i 8 with z | z
    · rw [decide_eq_true z, Bool.and_true]
    · rw [h i z, Bool.false_and]
  exact ⟨x.toBitVec.toNat % 2 ^ 8, Nat.mod_lt _ (by decide), e.symm.trans (pk_and x 8 (by decide))⟩
theorem zs_s : ∀ m, m < 256 → (nI m).toInt16.toInt32 = nI m := by decide +kernel
theorem zs_b : ∀ m, m < 128 → (nI m).toInt8.toInt32 = nI m := by decide +kernel
theorem zs_nar {x : Int32} (h : zs_Sm x) : vp_nar .short x.toInt16.toInt32 = x := by
  obtain ⟨m, hm, rfl⟩ := zs_num h
  rw [pk_vs, zs_s m hm]
theorem zs_narb {m : Nat} (h : m < 128) : vp_nar .byte (nI m).toInt8.toInt32 = nI m := by rw [pk_vb, zs_b m h]
theorem zs_narc {m : Nat} (h : m < 128) : vp_nar .byte (nI m) = nI m := by rw [vp_nar_byte, zs_b m h]
theorem zs_m1 : vp_nar .byte (-1) = -1 := by rw [vp_nar_byte]; decide +kernel
theorem zs_255 : vp_nar .short 255 = 255 := by rw [vp_nar_short]; decide +kernel
def zs_Is (r : Int32) (P : Nat → Prop) : Prop := ∀ j, bt r j = true ↔ (j < 8 ∧ P j)
theorem zs_uq {r r' : Int32} {P Q : Nat → Prop} (h : zs_Is r P) (h' : zs_Is r' Q) (e : ∀ j, j < 8 → (P j ↔ Q j)) : r = r' := by
  apply b_ext
  intro j _
  rw [Bool.eq_iff_iff, h j, h' j]
  exact ⟨fun ⟨a, b⟩ => ⟨a, (e j a).mp b⟩, fun ⟨a, b⟩ => ⟨a, (e j a).mpr b⟩⟩
theorem zs_sm {r : Int32} {P : Nat → Prop} (h : zs_Is r P) : zs_Sm r := fun j hj => by
  cases e : bt r j
  · rfl
  · have := ((h j).mp e).1; omega
theorem zs_lt {r : Int32} {j : Nat} (h : zs_Sm r) (e : bt r j = true) : j < 8 := by
  rcases Nat.lt_or_ge j 8 with z | z
  · exact z
  · rw [h j z] at e; cases e
theorem zs_or0 (s : Int32) : s ||| 0 = s := by
  apply b_ext
  intro i _
  rw [b_or, b_0, Bool.or_false]
theorem zs_ne0 {x : Int32} : ¬ x = 0 ↔ ∃ j, bt x j = true := by
  constructor
  · intro h
    refine Classical.byContradiction fun n => h ?_
    apply b_ext
    intro i _
    rw [b_0]
    cases e : bt x i
    · rfl
    · exact absurd ⟨i, e⟩ n
  · rintro ⟨j, hj⟩ e
    rw [e, b_0] at hj
    cases hj
/-! an or gathered over numbers below i -/
def zo_I (C : Nat → Prop) (V : Nat → Nat → Prop) (i : Nat) (s : Int32) : Prop := ∀ j, bt s j = true ↔ ∃ b, b < i ∧ C b ∧ V b j
theorem zo_0 {C : Nat → Prop} {V : Nat → Nat → Prop} : zo_I C V 0 0 := fun j => ⟨fun h => absurd ((b_0 j).symm.trans h) Bool.false_ne_true, fun ⟨b, hb, _⟩ => absurd hb (Nat.not_lt_zero b)⟩
theorem zo_f {C : Nat → Prop} {V : Nat → Nat → Prop} {i : Nat} {s : Int32} (h : zo_I C V i s) (hc : ¬ C i) : zo_I C V (i + 1) s := fun j => (h j).trans ⟨fun ⟨b, hb, r⟩ => ⟨b, by omega, r⟩, fun ⟨b, hb, c, v⟩ => by
  rcases Nat.lt_or_ge b i with z | z
  · exact ⟨b, z, c, v⟩
  · have e : b = i := by omega
    subst e
    exact absurd c hc⟩
theorem zo_f0 {C : Nat → Prop} {V : Nat → Nat → Prop} {i : Nat} {s : Int32} (h : zo_I C V i s) (hc : ¬ C i) : zo_I C V (i + 1) (s ||| 0) := by
  rw [zs_or0]
  exact zo_f h hc
theorem zo_t {C : Nat → Prop} {V : Nat → Nat → Prop} {i : Nat} {s x : Int32} (h : zo_I C V i s) (hc : C i) (hv : ∀ j, bt x j = true ↔ V i j) : zo_I C V (i + 1) (s ||| x) := fun j => by
  rw [b_or, Bool.or_eq_true, h j, hv j]
  constructor
  · rintro (⟨b, hb, r⟩ | v)
    · exact ⟨b, by omega, r⟩
    · exact ⟨i, by omega, hc, v⟩
  · rintro ⟨b, hb, c, v⟩
    rcases Nat.lt_or_ge b i with z | z
    · exact Or.inl ⟨b, z, c, v⟩
    · have e : b = i := by omega
      subst e
      exact Or.inr v
/-! indices -/
theorem zi_x (l a : Nat) : nI l * 8 + nI a = nI (8 * l + a) := by
  show nI l * nI 8 + nI a = _
  rw [pk_mul, nI_add, Nat.mul_comm]
theorem zi_y (l a : Nat) : 8 * nI l + nI a = nI (8 * l + a) := by
  show nI 8 * nI l + nI a = _
  rw [pk_mul, nI_add]
theorem zi_d {c : Nat} (h : c < 192) : nI c / 8 = nI (c / 8) := pk_div (d := 8) (by omega) (by omega) (by omega)
theorem zi_m {c : Nat} (h : c < 192) : nI c - nI c / 8 * 8 = nI (c % 8) := pk_rem (d := 8) (by omega) (by omega) (by omega)
theorem zi_80 : ¬ (8 : Int32) = 0 := by decide
theorem zk_3t : (3 : Int32) ≤ nI 3 := nI_le (a := 3) (Nat.le_refl 3) (by decide)
theorem zk_8t : (8 : Int32) ≤ nI 8 := nI_le (a := 8) (Nat.le_refl 8) (by decide)
theorem zk_24t : (24 : Int32) ≤ nI 24 := nI_le (a := 24) (Nat.le_refl 24) (by decide)
theorem zk_64t : (64 : Int32) ≤ nI 64 := nI_le (a := 64) (Nat.le_refl 64) (by decide)
theorem zk_192t : (192 : Int32) ≤ nI 192 := nI_le (a := 192) (Nat.le_refl 192) (by decide)
theorem zk_3f {i : Nat} (h : i < 3) : ¬ (3 : Int32) ≤ nI i := nI_ge (b := 3) h (by decide)
theorem zk_8f {i : Nat} (h : i < 8) : ¬ (8 : Int32) ≤ nI i := nI_ge (b := 8) h (by decide)
theorem zk_24f {i : Nat} (h : i < 24) : ¬ (24 : Int32) ≤ nI i := nI_ge (b := 24) h (by decide)
theorem zk_64f {i : Nat} (h : i < 64) : ¬ (64 : Int32) ≤ nI i := nI_ge (b := 64) h (by decide)
theorem zk_65f {i : Nat} (h : i < 65) : ¬ (65 : Int32) ≤ nI i := nI_ge (b := 65) h (by decide)
theorem zk_192f {i : Nat} (h : i < 192) : ¬ (192 : Int32) ≤ nI i := nI_ge (b := 192) h (by decide)
/-- a flag that tells P -/
def zFl (x : Int32) (P : Prop) : Prop := (x = 1 ∧ P) ∨ (x = 0 ∧ ¬ P)
theorem zFl_nar {x : Int32} {P : Prop} (h : zFl x P) : narrow .boolean (.int x) = .int x := by
  rcases h with ⟨rfl, _⟩ | ⟨rfl, _⟩ <;> rfl
theorem zFl_uq {x y : Int32} {P Q : Prop} (h : zFl x P) (h' : zFl y Q) (e : P ↔ Q) : x = y := by
  rcases h with ⟨rfl, p⟩ | ⟨rfl, p⟩ <;> rcases h' with ⟨rfl, q⟩ | ⟨rfl, q⟩
  · rfl
  · exact absurd (e.mp p) q
  · exact absurd (e.mpr q) p
  · rfl
theorem zFl_br {x : Int32} {P A B : Prop} (h : zFl x P) (f : ¬ P → A) (t : P → B) : (x = 0 → A) ∧ (¬ x = 0 → B) := by
  rcases h with ⟨rfl, p⟩ | ⟨rfl, p⟩
  · exact br_f zb_10 (t p)
  · exact br_t rfl (f p)
theorem zFl_c {x : Int32} {P Q : Prop} (h : zFl x P) (e : P ↔ Q) : zFl x Q := by
  rcases h with ⟨rfl, p⟩ | ⟨rfl, p⟩
  · exact Or.inl ⟨rfl, e.mp p⟩
  · exact Or.inr ⟨rfl, fun q => p (e.mpr q)⟩
end
section
/-! steps as bits -/
def zS (T : Nat → Int32) (l a b : Nat) : Prop := bt (T (8 * l + a)) b = true
theorem zS_0 {T : Nat → Int32} {a b : Nat} : zS T 0 a b ↔ bt (T a) b = true := by
  unfold zS
  rw [Nat.mul_zero, Nat.zero_add]
def zn_Ok (nx : Nat → Int32) : Prop := ∀ c, c < 24 → zs_Sm (nx c)
def zRp (T : Nat → Int32) (S : Nat → Nat → Nat → Prop) : Prop := ∀ l a, l < 3 → a < 8 → zs_Is (T (8 * l + a)) (S l a)
theorem zRp_own {T : Nat → Int32} (h : zn_Ok T) : zRp T (zS T) := fun l a hl ha j =>
  ⟨fun e => ⟨zs_lt (h (8 * l + a) (by omega)) e, e⟩, fun e => e.2⟩
theorem zRp_b {T : Nat → Int32} {S : Nat → Nat → Nat → Prop} (h : zRp T S) {l a b : Nat} (hl : l < 3) (ha : a < 8) (hb : b < 8) : bt (T (8 * l + a)) b = true ↔ S l a b :=
  (h l a hl ha b).trans ⟨fun e => e.2, fun e => ⟨hb, e⟩⟩
theorem zRp_c {T T' : Nat → Int32} {S : Nat → Nat → Nat → Prop} (h : zRp T S) (e : ∀ c, c < 24 → T' c = T c) : zRp T' S := fun l a hl ha => by
  rw [e (8 * l + a) (by omega)]
  exact h l a hl ha
/-! silent closure -/
def zp_Cl (N : Nat → Nat → Prop) (Q : Nat → Prop) : Prop := ∀ x y, x < 8 → Q x → N x y → Q y
def zp_Re (N : Nat → Nat → Prop) (a j : Nat) : Prop := ∀ Q : Nat → Prop, zp_Cl N Q → Q a → Q j
/-- within a pass from s0, the states below i dealt with -/
def zp_I (N : Nat → Nat → Prop) (s0 : Int32) (i : Nat) (s : Int32) : Prop :=
  (∀ j, bt s j = true → j < 8) ∧ (∀ j, bt s0 j = true → bt s j = true) ∧
  (∀ Q : Nat → Prop, zp_Cl N Q → (∀ j, bt s0 j = true → Q j) → ∀ j, bt s j = true → Q j) ∧
  ((∀ j, bt s j = true → bt s0 j = true) → ∀ x y, x < i → bt s0 x = true → N x y → bt s0 y = true)
theorem zp_I0 {N : Nat → Nat → Prop} {s0 : Int32} (h : ∀ j, bt s0 j = true → j < 8) : zp_I N s0 0 s0 :=
  ⟨h, fun _ e => e, fun _ _ q => q, fun _ x _ hx => absurd hx (Nat.not_lt_zero x)⟩
theorem zp_It {N : Nat → Nat → Prop} {s0 s x : Int32} {i : Nat} (h : zp_I N s0 i s) (hi : i < 8) (hb : bt s i = true) (hx : ∀ j, bt x j = true ↔ N i j) (hN : ∀ j, N i j → j < 8) : zp_I N s0 (i + 1) (s ||| x) := by
  obtain ⟨h1, h2, h3, h4⟩ := h
  have o : ∀ j, bt (s ||| x) j = true ↔ (bt s j = true ∨ N i j) := fun j => by rw [b_or, Bool.or_eq_true, hx j]
  refine ⟨fun j e => ?_, fun j e => (o j).mpr (Or.inl (h2 j e)), fun Q hQ q j e => ?_, fun z y w hy e n => ?_⟩
  · rcases (o j).mp e with e | e
    · exact h1 j e
    · exact hN j e
  · rcases (o j).mp e with e | e
    · exact h3 Q hQ q j e
    · exact hQ i j hi (h3 Q hQ q i hb) e
  · rcases Nat.lt_or_ge y i with g | g
    · exact h4 (fun j e => z j ((o j).mpr (Or.inl e))) y w g e n
    · have ey : y = i := by omega
      subst ey
      exact z w ((o w).mpr (Or.inr n))
theorem zp_If {N : Nat → Nat → Prop} {s0 s : Int32} {i : Nat} (h : zp_I N s0 i s) (hb : ¬ bt s0 i = true) : zp_I N s0 (i + 1) s := by
  obtain ⟨h1, h2, h3, h4⟩ := h
  refine ⟨h1, h2, h3, fun z y w hy e n => ?_⟩
  rcases Nat.lt_or_ge y i with g | g
  · exact h4 z y w g e n
  · have ey : y = i := by omega
    subst ey
    exact absurd e hb
def zp_K (N : Nat → Nat → Prop) (a k : Nat) (s : Int32) : Prop :=
  (∀ j, bt s j = true → j < 8) ∧ bt s a = true ∧ (∀ Q : Nat → Prop, zp_Cl N Q → Q a → ∀ j, bt s j = true → Q j) ∧
  (zp_Cl N (fun j => bt s j = true) ∨ k + 1 ≤ cn (fun j => bt s j = true) 8)
theorem zp_K0 {N : Nat → Nat → Prop} {a : Nat} (ha : a < 8) : zp_K N a 0 ((1 : Int32) <<< (nI a &&& 31)) := by
  have e : ∀ j, bt ((1 : Int32) <<< (nI a &&& 31)) j = true ↔ j = a := fun j => zb_sht (by omega) j
  refine ⟨fun j h => ?_, (e a).mpr rfl, fun Q _ q j h => ?_, Or.inr ?_⟩
  · have := (e j).mp h
    omega
  · have := (e j).mp h
    subst this
    exact q
  · have := cn_lt (P := fun _ => False) (Q := fun j => bt ((1 : Int32) <<< (nI a &&& 31)) j = true) (a := a) id ((e a).mpr rfl) (N := 8) (fun k _ h => h.elim) ha
    omega
theorem zp_Ks {N : Nat → Nat → Prop} {a k : Nat} {s s' : Int32} (K : zp_K N a k s) (h : zp_I N s 8 s') : zp_K N a (k + 1) s' := by
  obtain ⟨k1, k2, k3, k4⟩ := K
  obtain ⟨p1, p2, p3, p4⟩ := h
  refine ⟨p1, p2 a k2, fun Q hQ q => p3 Q hQ (k3 Q hQ q), ?_⟩
  rcases Classical.em (∀ j, bt s' j = true → bt s j = true) with z | z
  · exact Or.inl (fun x y hx q n => p2 y (p4 z x y hx (z x q) n))
  · refine Or.inr ?_
    obtain ⟨j, hj⟩ := Classical.not_forall.mp z
    have h1 : bt s' j = true := Classical.byContradiction fun n => hj (fun e => absurd e n)
    have h2 : ¬ bt s j = true := fun e => hj (fun _ => e)
    have k5 : k + 1 ≤ cn (fun j => bt s j = true) 8 := k4.resolve_left (fun c => h2 (p3 _ c (fun _ e => e) j h1))
    have := cn_lt (P := fun j => bt s j = true) (Q := fun j => bt s' j = true) (N := 8) h2 h1 (fun x _ => p2 x) (p1 j h1)
    omega
theorem zp_Ke {N : Nat → Nat → Prop} {a : Nat} {s : Int32} (K : zp_K N a 8 s) : zs_Is s (zp_Re N a) := by
  obtain ⟨k1, k2, k3, k4⟩ := K
  have c : zp_Cl N (fun j => bt s j = true) := k4.elim id (fun h => by have := cn_le (fun j => bt s j = true) 8; omega)
  exact fun j => ⟨fun h => ⟨k1 j h, fun Q hQ q => k3 Q hQ q j h⟩, fun ⟨_, h⟩ => h _ c k2⟩
/-- long steps -/
def zL (nx : Nat → Int32) (l a j : Nat) : Prop := (l = 0 ∧ zp_Re (zS nx 0) a j) ∨ (l ≠ 0 ∧ ∃ c, c < 8 ∧ (∃ b, b < 8 ∧ zp_Re (zS nx 0) a b ∧ zS nx l b c) ∧ zp_Re (zS nx 0) c j)
theorem zL_0 {nx : Nat → Int32} {a j : Nat} : zp_Re (zS nx 0) a j ↔ zL nx 0 a j := ⟨fun h => Or.inl ⟨rfl, h⟩, fun h => h.elim (fun h => h.2) (fun h => absurd rfl h.1)⟩
theorem zL_n {nx : Nat → Int32} {l a j : Nat} (hl : l ≠ 0) : (∃ c, c < 8 ∧ (∃ b, b < 8 ∧ zp_Re (zS nx 0) a b ∧ zS nx l b c) ∧ zp_Re (zS nx 0) c j) ↔ zL nx l a j := ⟨fun h => Or.inr ⟨hl, h⟩, fun h => h.elim (fun h => absurd h.1 hl) (fun h => h.2)⟩
/-! rounds that tell apart -/
def zD (S : Nat → Nat → Nat → Prop) (E : Nat → Nat → Prop) (a b : Nat) : Prop := ∀ l c, l < 3 → c < 8 → S l a c → ∃ d, d < 8 ∧ S l b d ∧ E c d
def zE (S : Nat → Nat → Nat → Prop) : Nat → Nat → Nat → Prop
  | 0 => fun _ _ => True
  | r + 1 => fun a b => zE S r a b ∧ zD S (zE S r) a b ∧ zD S (zE S r) b a
theorem zE_s {S : Nat → Nat → Nat → Prop} {r a b : Nat} : zE S (r + 1) a b ↔ (zE S r a b ∧ zD S (zE S r) a b ∧ zD S (zE S r) b a) := Iff.rfl
theorem zE_r (S : Nat → Nat → Nat → Prop) (r : Nat) : ∀ a, zE S r a a := by
  induction r with
  | zero => exact fun _ => trivial
  | succ r ih => exact fun a => zE_s.mpr ⟨ih a, fun l c _ hc s => ⟨c, hc, s, ih c⟩, fun l c _ hc s => ⟨c, hc, s, ih c⟩⟩
theorem zE_y (S : Nat → Nat → Nat → Prop) (r : Nat) : ∀ {a b}, zE S r a b → zE S r b a := by
  induction r with
  | zero => exact fun _ => trivial
  | succ r ih => exact fun h => zE_s.mpr ⟨ih (zE_s.mp h).1, (zE_s.mp h).2.2, (zE_s.mp h).2.1⟩
theorem zD_t {S : Nat → Nat → Nat → Prop} {E : Nat → Nat → Prop} (t : ∀ x y z, E x y → E y z → E x z) {a b c : Nat} (h : zD S E a b) (h' : zD S E b c) : zD S E a c := fun l x hl hx s => by
  obtain ⟨d, hd, s', e⟩ := h l x hl hx s
  obtain ⟨d', hd', s'', e'⟩ := h' l d hl hd s'
  exact ⟨d', hd', s'', t _ _ _ e e'⟩
theorem zE_t (S : Nat → Nat → Nat → Prop) (r : Nat) : ∀ {a b c}, zE S r a b → zE S r b c → zE S r a c := by
  induction r with
  | zero => exact fun _ _ => trivial
  | succ r ih =>
    intro a b c h h'
    have h := zE_s.mp h
    have h' := zE_s.mp h'
    exact zE_s.mpr ⟨ih h.1 h'.1, zD_t (E := zE S r) (fun _ _ _ => ih) h.2.1 h'.2.1, zD_t (E := zE S r) (fun _ _ _ => ih) h'.2.2 h.2.2⟩
theorem zE_a {S : Nat → Nat → Nat → Prop} {k r a b : Nat} (h : k ≤ r) : zE S r a b → zE S k a b := by
  induction h with
  | refl => exact id
  | step _ ih => exact fun e => ih (zE_s.mp e).1
/-- some pair below c0 is told apart in round r + 1 -/
def zMp (S : Nat → Nat → Nat → Prop) (r c : Nat) : Prop := zE S r (c / 8) (c % 8) ∧ ¬ zE S (r + 1) (c / 8) (c % 8)
def zM (S : Nat → Nat → Nat → Prop) (r c0 : Nat) : Prop := ∃ c, c < c0 ∧ zMp S r c
def zLd (E : Nat → Nat → Prop) (a : Nat) : Prop := ∀ j, j < a → ¬ E a j
theorem zLd_c (S : Nat → Nat → Nat → Prop) : ∀ r, (∀ k, k < r → zM S k 64) → r + 1 ≤ cn (zLd (zE S r)) 8 := by
  intro r
  induction r with
  | zero =>
    intro _
    have := cn_lt (P := fun _ => False) (Q := zLd (zE S 0)) (a := 0) id (fun j hj => absurd hj (Nat.not_lt_zero j)) (N := 8) (fun k _ h => h.elim) (by decide)
    omega
  | succ r ih =>
    intro h
    have ih := ih (fun k hk => h k (by omega))
    obtain ⟨c, hc, e, ne⟩ := h r (by omega)
    obtain ⟨x, hx, lx⟩ := pk_least (fun k => zE S (r + 1) (c / 8) k) ⟨_, zE_r S (r + 1) _⟩
    obtain ⟨y, hy, ly⟩ := pk_least (fun k => zE S (r + 1) (c % 8) k) ⟨_, zE_r S (r + 1) _⟩
    have bx : x ≤ c / 8 := Nat.le_of_not_lt fun g => lx _ g (zE_r S (r + 1) _)
    have yb : y ≤ c % 8 := Nat.le_of_not_lt fun g => ly _ g (zE_r S (r + 1) _)
    have Lx : zLd (zE S (r + 1)) x := fun j hj q => lx j hj (zE_t S (r + 1) hx q)
    have Ly : zLd (zE S (r + 1)) y := fun j hj q => ly j hj (zE_t S (r + 1) hy q)
    have exy : zE S r x y := zE_t S r (zE_y S r (zE_s.mp hx).1) (zE_t S r e (zE_s.mp hy).1)
    have nxy : x ≠ y := fun q => by
      subst q
      exact ne (zE_t S (r + 1) hx (zE_y S (r + 1) hy))
    have mono : ∀ k, k < 8 → zLd (zE S r) k → zLd (zE S (r + 1)) k := fun k _ q j hj z => q j hj (zE_s.mp z).1
    rcases Nat.lt_or_ge x y with g | g
    · have := cn_lt (P := zLd (zE S r)) (Q := zLd (zE S (r + 1))) (a := y) (fun q => q x g (zE_y S r exy)) Ly (N := 8) mono (by omega)
      omega
    · have := cn_lt (P := zLd (zE S r)) (Q := zLd (zE S (r + 1))) (a := x) (fun q => q y (by omega) exy) Lx (N := 8) mono (by omega)
      omega
/-- R is the last round that tells some pair apart -/
def zR (S : Nat → Nat → Nat → Prop) (R : Nat) : Prop := R ≤ 7 ∧ ¬ zM S R 64 ∧ ∀ k, k < R → zM S k 64
theorem zR_ex (S : Nat → Nat → Nat → Prop) : ∃ R, zR S R := by
  have h : ∃ k, ¬ zM S k 64 ∧ k ≤ 7 := Classical.byContradiction fun n => by
    have a := zLd_c S 8 (fun k hk => Classical.byContradiction fun m => n ⟨k, m, by omega⟩)
    have b := cn_le (zLd (zE S 8)) 8
    omega
  obtain ⟨R, h1, h3⟩ := pk_least (fun k => ¬ zM S k 64 ∧ k ≤ 7) h
  exact ⟨R, h1.2, h1.1, fun k hk => Classical.byContradiction fun n => h3 k hk ⟨n, by have := h1.2; omega⟩⟩
/-- the round after which a pair is told apart, as a value -/
def zTv (S : Nat → Nat → Nat → Prop) (r a b : Nat) (x : Int32) : Prop := (zE S r a b ∧ x = -1) ∨ (∃ k, k < r ∧ zE S k a b ∧ ¬ zE S (k + 1) a b ∧ x = nI (k + 1))
theorem zTv_t {S : Nat → Nat → Nat → Prop} {r a b : Nat} (h : zE S r a b) (h' : ¬ zE S (r + 1) a b) : zTv S (r + 1) a b (nI (r + 1)) := Or.inr ⟨r, Nat.lt_succ_self r, h, h', rfl⟩
theorem zTv_f {S : Nat → Nat → Nat → Prop} {r a b : Nat} {x : Int32} (h : zTv S r a b x) (h' : ¬ (zE S r a b ∧ ¬ zE S (r + 1) a b)) : zTv S (r + 1) a b x := by
  rcases h with ⟨e, h⟩ | ⟨k, hk, h⟩
  · exact Or.inl ⟨Classical.byContradiction fun n => h' ⟨e, n⟩, h⟩
  · exact Or.inr ⟨k, by omega, h⟩
theorem zTv_u {S : Nat → Nat → Nat → Prop} {r a b : Nat} {x y : Int32} (h : zTv S r a b x) (h' : zTv S r a b y) : x = y := by
  rcases h with ⟨e, h⟩ | ⟨k, hk, e, n, h⟩ <;> rcases h' with ⟨e', h'⟩ | ⟨k', hk', e', n', h'⟩
  · rw [h, h']
  · exact absurd (zE_a hk' e) n'
  · exact absurd (zE_a hk e') n
  · have q : k = k' := by
      rcases Nat.lt_or_ge k k' with g | g
      · exact absurd (zE_a g e') n
      · rcases Nat.lt_or_ge k' k with g' | g'
        · exact absurd (zE_a g' e) n'
        · omega
    subst q
    rw [h, h']
theorem zm1 : (-1 : Int32) < 0 := by decide
theorem zTv_n {S : Nat → Nat → Nat → Prop} {r a b : Nat} {x : Int32} (h : zTv S r a b x) (hr : r ≤ 100) : x < 0 ↔ zE S r a b := by
  rcases h with ⟨e, rfl⟩ | ⟨k, hk, e, n, rfl⟩
  · exact ⟨fun _ => e, fun _ => zm1⟩
  · exact ⟨fun z => absurd z (nI_pos (by omega)), fun z => absurd (zE_a hk z) n⟩
theorem zTv_p {S : Nat → Nat → Nat → Prop} {r a b : Nat} {x : Int32} (h : zTv S r a b x) (hr : r ≤ 100) : 0 ≤ x ↔ ¬ zE S r a b := by
  rw [← zTv_n h hr, Int32.not_lt]
theorem zTv_a {S : Nat → Nat → Nat → Prop} {r a b : Nat} {x : Int32} (h : zTv S r a b x ∨ zTv S (r + 1) a b x) (hr : r ≤ 100) : (x < 0 ∨ nI (r + 1) ≤ x) ↔ zE S r a b := by
  rcases h with (⟨e, rfl⟩ | ⟨k, hk, e, n, rfl⟩) | (⟨e, rfl⟩ | ⟨k, hk, e, n, rfl⟩)
  · exact ⟨fun _ => e, fun _ => Or.inl zm1⟩
  · refine ⟨fun z => z.elim (fun z => absurd z (nI_pos (by omega))) (fun z => ?_), fun z => absurd (zE_a hk z) n⟩
    rw [nI_leI (by omega) (by omega)] at z
    omega
  · exact ⟨fun _ => (zE_s.mp e).1, fun _ => Or.inl zm1⟩
  · rw [nI_leI (by omega) (by omega)]
    refine ⟨fun z => z.elim (fun z => absurd z (nI_pos (by omega))) (fun z => ?_), fun z => Or.inr ?_⟩
    · have q : k = r := by omega
      subst q
      exact e
    · refine Classical.byContradiction fun g => n (zE_a (by omega) z)
/-- the told rounds, the cells below c0 after round r + 1, the others after round r -/
def zTm (S : Nat → Nat → Nat → Prop) (r c0 : Nat) (t : Nat → Int32) : Prop := ∀ c, c < 64 → (c < c0 → zTv S (r + 1) (c / 8) (c % 8) (t c)) ∧ (c0 ≤ c → zTv S r (c / 8) (c % 8) (t c))
def zTs (S : Nat → Nat → Nat → Prop) (r : Nat) (t : Nat → Int32) : Prop := ∀ c, c < 64 → zTv S r (c / 8) (c % 8) (t c)
theorem zTm_0 {S : Nat → Nat → Nat → Prop} {r : Nat} {t : Nat → Int32} (h : zTs S r t) : zTm S r 0 t := fun c hc => ⟨fun z => absurd z (Nat.not_lt_zero c), fun _ => h c hc⟩
theorem zTm_e {S : Nat → Nat → Nat → Prop} {r : Nat} {t : Nat → Int32} (h : zTm S r 64 t) : zTs S (r + 1) t := fun c hc => (h c hc).1 hc
theorem zTm_t {S : Nat → Nat → Nat → Prop} {r c0 : Nat} {t : Nat → Int32} (h : zTm S r c0 t) (m : zMp S r c0) : zTm S r (c0 + 1) (upd t c0 (nI (r + 1))) := fun c hc => by
  by_cases e : c = c0
  · subst e
    refine ⟨fun _ => ?_, fun z => by omega⟩
    rw [pk_us]
    exact zTv_t m.1 m.2
  · rw [pk_un e]
    exact ⟨fun z => (h c hc).1 (by omega), fun z => (h c hc).2 (by omega)⟩
theorem zTm_f {S : Nat → Nat → Nat → Prop} {r c0 : Nat} {t : Nat → Int32} (h : zTm S r c0 t) (m : ¬ zMp S r c0) : zTm S r (c0 + 1) t := fun c hc => by
  by_cases e : c = c0
  · subst e
    exact ⟨fun _ => zTv_f ((h c hc).2 (Nat.le_refl c)) m, fun z => by omega⟩
  · exact ⟨fun z => (h c hc).1 (by omega), fun z => (h c hc).2 (by omega)⟩
theorem zM_t {S : Nat → Nat → Nat → Prop} {r c0 : Nat} (m : zMp S r c0) : zM S r (c0 + 1) := ⟨c0, Nat.lt_succ_self _, m⟩
theorem zM_f {S : Nat → Nat → Nat → Prop} {r c0 : Nat} (m : ¬ zMp S r c0) : zM S r c0 ↔ zM S r (c0 + 1) := ⟨fun ⟨c, hc, h⟩ => ⟨c, by omega, h⟩, fun ⟨c, hc, h⟩ => by
  rcases Nat.lt_or_ge c c0 with g | g
  · exact ⟨c, g, h⟩
  · have e : c = c0 := by omega
    subst e
    exact absurd h m⟩
theorem zM_s {S : Nat → Nat → Nat → Prop} {r c0 : Nat} (m : zM S r c0) : zM S r (c0 + 1) := by
  obtain ⟨c, hc, h⟩ := m
  exact ⟨c, by omega, h⟩
theorem zM_0 {S : Nat → Nat → Nat → Prop} {r : Nat} : ¬ zM S r 0 := fun ⟨c, hc, _⟩ => absurd hc (Nat.not_lt_zero c)
/-! groups by their least states -/
def zGr (E : Nat → Nat → Prop) (a : Nat) (x : Int32) : Prop := ∃ g, g ≤ a ∧ x = nI g ∧ E a g ∧ ∀ j, j < g → ¬ E a j
def zG (E : Nat → Nat → Prop) (n : Nat) (go : Nat → Int32) : Prop := ∀ a, a < n → zGr E a (go a)
theorem zG_e {S : Nat → Nat → Nat → Prop} {r n a b : Nat} {go : Nat → Int32} (h : zG (zE S r) n go) (hn : n ≤ 8) (ha : a < n) (hb : b < n) : go a = go b ↔ zE S r a b := by
  obtain ⟨g, hg, e, q, m⟩ := h a ha
  obtain ⟨g', hg', e', q', m'⟩ := h b hb
  rw [e, e', nI_eq (by omega) (by omega)]
  constructor
  · intro z
    subst z
    exact zE_t S r q (zE_y S r q')
  · intro z
    rcases Nat.lt_or_ge g g' with k | k
    · exact absurd (zE_t S r (zE_y S r z) q) (m' g k)
    · rcases Nat.lt_or_ge g' g with k' | k'
      · exact absurd (zE_t S r z q') (m g' k')
      · omega
theorem zG_l {E : Nat → Nat → Prop} {n a : Nat} {go : Nat → Int32} (h : zG E n go) (hn : n ≤ 8) (ha : a < n) (hr : E a a) : go a = nI a ↔ zLd E a := by
  obtain ⟨g, hg, e, q, m⟩ := h a ha
  rw [e, nI_eq (by omega) (by omega)]
  constructor
  · intro z
    subst z
    exact m
  · intro z
    refine Classical.byContradiction fun k => z g (by omega) q
end
section
/-! the relation; join, cut, steps, after -/
def i_Rel (k : Nat) (u : SX) (v : SY) : Prop := u.2.1 = v.1 ∧ zn_Ok v.1
theorem i_up {k : Nat} {u : SX} {v : SY} (h : i_Rel k u v) : i_Rel (k + 4) u v := h
theorem zr_i {k : Nat} {lr : Int32} {nx ln go ng tr fs fa to ke af : Nat → Int32} (h : zn_Ok nx) : i_Rel k (lr, nx, ln, go, ng, tr, fs) (nx, fa, to, ke, af) := And.intro rfl h
theorem zr_e {k : Nat} {P : SX → SY → Prop} (h : ∀ (lr : Int32) (nx ln go ng tr fs fa to ke af : Nat → Int32), zn_Ok nx → P (lr, nx, ln, go, ng, tr, fs) (nx, fa, to, ke, af)) {u : SX} {v : SY} (I : i_Rel k u v) : P u v := by
  obtain ⟨lr, nx, ln, go, ng, tr, fs⟩ := u
  obtain ⟨nx', fa, to, ke, af⟩ := v
  have e : nx = nx' := I.1
  have o : zn_Ok nx' := I.2
  subst e
  exact h lr nx ln go ng tr fs fa to ke af o
theorem zr_0 : zn_Ok (fun _ => 0) := fun _ _ j _ => b_0 j
theorem i_vc0 : wpX_init (fun u => wpY_init (fun v => i_Rel 0 u v)) := zr_i (k := 0) zr_0
def zQ (n : Nat) (p : Int32) : Prop := ∃ a, a < n ∧ p = nI a
theorem zQ_n {n : Nat} {p : Int32} (hn : n < 2 ^ 31) (h : ¬ zQ n p) : p < 0 ∨ (¬ p < 0 ∧ nI n ≤ p) := by
  by_cases z : p < 0
  · exact Or.inl z
  · obtain ⟨j, hj, rfl⟩ := nI_of z
    refine Or.inr ⟨z, ?_⟩
    rcases Nat.lt_or_ge j n with g | g
    · exact absurd ⟨j, g, rfl⟩ h
    · exact nI_le g hj
section
variable {lr : Int32} {nx ln go ng tr fs fa to ke af : Nat → Int32}
theorem zx_st0 {post : Int32 → Prop} {p : Int32} (h : ¬ zQ 8 p) (H : post 0) : wpX_isState post p := by
  rcases zQ_n (by decide) h with z | ⟨z, z'⟩
  · exact br_t z H
  · exact br_f z (br_t z' H)
theorem zx_st1 {post : Int32 → Prop} {a : Nat} (h : a < 8) (H : post 1) : wpX_isState post (nI a) :=
  br_f (nI_pos (by omega)) (br_f (zk_8f h) H)
theorem zk_7 {p : Int32} (h : nI 8 ≤ p) : 7 < p := by
  have e : (nI 8).toInt = 8 := nI_toInt (by decide)
  have e7 : (7 : Int32).toInt = 7 := by decide
  rw [Int32.le_iff_toInt_le, e] at h
  rw [Int32.lt_iff_toInt_lt, e7]
  omega
theorem zk_2 {p : Int32} (h : nI 3 ≤ p) : 2 < p := by
  have e : (nI 3).toInt = 3 := nI_toInt (by decide)
  have e7 : (2 : Int32).toInt = 2 := by decide
  rw [Int32.le_iff_toInt_le, e] at h
  rw [Int32.lt_iff_toInt_lt, e7]
  omega
theorem zk_7f {a : Nat} (h : a < 8) : ¬ (7 : Int32) < nI a := nI_nlt (a := 7) (by omega) (by decide)
theorem zk_2f {a : Nat} (h : a < 3) : ¬ (2 : Int32) < nI a := nI_nlt (a := 2) (by omega) (by decide)
theorem zk_2l {a : Nat} (h : a < 3) : nI a ≤ 2 := nI_le (b := 2) (by omega) (by decide)
theorem zk_2n {p : Int32} (h : nI 3 ≤ p) : ¬ p ≤ 2 := fun z => absurd (zk_2 h) (Int32.not_lt.mpr z)
theorem zy_st0 {post : Int32 → Prop} {p : Int32} (h : ¬ zQ 8 p) (H : post 0) : wpY_state post (nx, fa, to, ke, af) p := by
  rcases zQ_n (by decide) h with z | ⟨z, z'⟩
  · exact br_t z H
  · exact br_f z (br_t (zk_7 z') H)
theorem zy_st1 {post : Int32 → Prop} {a : Nat} (h : a < 8) (H : post 1) : wpY_state post (nx, fa, to, ke, af) (nI a) :=
  br_f (nI_pos (by omega)) (br_f (zk_7f h) H)
theorem zx_sp1 {post : Int32 → Prop} {a b l : Nat} (ha : a < 8) (hb : b < 8) (hl : l < 3) (H : post 1) : wpX_isStep post (nI a) (nI b) (nI l) := by
  unfold wpX_isStep
  exact zx_st1 ha (br_f zb_10 (zx_st1 hb (br_f zb_10 (br_f (nI_pos (by omega)) (br_f (zk_3f hl) H)))))
def zQs (p0 p1 p2 : Int32) : Prop := zQ 8 p0 ∧ zQ 8 p1 ∧ zQ 3 p2
theorem zx_sp0 {post : Int32 → Prop} {p0 p1 p2 : Int32} (h : ¬ zQs p0 p1 p2) (H : post 0) : wpX_isStep post p0 p1 p2 := by
  unfold wpX_isStep
  rcases Classical.em (zQ 8 p0) with h0 | h0
  · obtain ⟨a, ha, rfl⟩ := h0
    refine zx_st1 ha (br_f zb_10 ?_)
    rcases Classical.em (zQ 8 p1) with h1 | h1
    · obtain ⟨b, hb, rfl⟩ := h1
      refine zx_st1 hb (br_f zb_10 ?_)
      rcases zQ_n (n := 3) (by decide) (fun z => h ⟨⟨a, ha, rfl⟩, ⟨b, hb, rfl⟩, z⟩) with z | ⟨z, z'⟩
      · exact br_t z H
      · exact br_f z (br_t z' H)
    · exact zx_st0 h1 (br_t rfl H)
  · exact zx_st0 h0 (br_t rfl H)
theorem zx_hs {post : Int32 → Prop} {a b l : Nat} (ha : a < 8) (hb : b < 8) (hl : l < 3) (f : ¬ zS nx l a b → post 0) (t : zS nx l a b → post 1) : wpX_hasStep post (lr, nx, ln, go, ng, tr, fs) (nI a) (nI b) (nI l) := by
  unfold wpX_hasStep
  dsimp only
  rw [zi_x, nI_clamp (by omega)]
  exact ⟨vp_in_nI (by omega) (by decide), zx_in (by omega) (fun h => ⟨rfl, f (by unfold zS; rw [h]; exact Bool.false_ne_true)⟩) (fun h => ⟨rfl, t h⟩)⟩
theorem zx_hsb {A B : Prop} {a b l : Nat} (ha : a < 8) (hb : b < 8) (hl : l < 3) (f : ¬ zS nx l a b → A) (t : zS nx l a b → B) : wpX_hasStep (fun r => ((r = 0 → A) ∧ (¬ r = 0 → B))) (lr, nx, ln, go, ng, tr, fs) (nI a) (nI b) (nI l) :=
  zx_hs ha hb hl (fun h => br_t rfl (f h)) (fun h => br_f zb_10 (t h))
theorem zt_sm {x : Int32} {b : Nat} (hb : b < 8) (h : zs_Sm x) : zs_Sm (x ^^^ ((1 : Int32) <<< (nI b &&& 31))) := fun j hj => by
  rw [b_xor, h j hj, zb_sh (by omega), decide_eq_false (by omega)]
  rfl
theorem zn_up {k : Nat} {x : Int32} (h : zn_Ok nx) (hx : zs_Sm x) : zn_Ok (upd nx k x) := fun c hc => by
  by_cases e : c = k
  · subst e; rw [pk_us]; exact hx
  · rw [pk_un e]; exact h c hc
theorem zu_id {f : Nat → Int32} {k : Nat} : upd f k (f k) = f := by
  funext j
  by_cases e : j = k
  · subst e; rw [pk_us]
  · rw [pk_un e]
theorem zu_uu {f : Nat → Int32} {k : Nat} {x y : Int32} : upd (upd f k x) k y = upd f k y := by
  funext j
  by_cases e : j = k
  · subst e; rw [pk_us, pk_us]
  · rw [pk_un e, pk_un e, pk_un e]
theorem zx_turn {post : SX → Prop} {a b l : Nat} (ha : a < 8) (hb : b < 8) (hl : l < 3) (hn : zn_Ok nx) (H : post (lr, upd nx (8 * l + a) (nx (8 * l + a) ^^^ ((1 : Int32) <<< (nI b &&& 31))), ln, go, ng, tr, fs)) : wpX_turn post (lr, nx, ln, go, ng, tr, fs) (nI a) (nI b) (nI l) := by
  unfold wpX_turn
  dsimp only
  refine nm_r (zi_x l a) ?_
  rw [nI_clamp (by omega), zs_nar (zt_sm hb (hn (8 * l + a) (by omega)))]
  exact ⟨vp_in_nI (by omega) (by decide), vp_in_nI (by omega) (by decide), nm_e H⟩
/-! join -/
theorem zy_join1 {post : Int32 → SY → Prop} {a b l : Nat} (ha : a < 8) (hb : b < 8) (hl : l < 3) (H : post 1 (upd nx (8 * l + a) (nx (8 * l + a) ||| ((1 : Int32) <<< (nI b &&& 31))), fa, to, ke, af)) : wpY_join post (nx, fa, to, ke, af) (nI a) (nI b) (nI l) := by
  unfold wpY_join
  dsimp only
  rw [zi_y, nI_clamp (by omega)]
  exact zy_st1 ha (br_f zb_10 (zy_st1 hb (br_f zb_10 (br_f (nI_pos (by omega)) (br_t (zk_2l hl) ⟨vp_in_nI (by omega) (by decide), vp_in_nI (by omega) (by decide), nm_e H⟩)))))
theorem zy_join0 {post : Int32 → SY → Prop} {p0 p1 p2 : Int32} (h : ¬ zQs p0 p1 p2) (H : post 0 (nx, fa, to, ke, af)) : wpY_join post (nx, fa, to, ke, af) p0 p1 p2 := by
  unfold wpY_join
  dsimp only
  rcases Classical.em (zQ 8 p0) with h0 | h0
  · obtain ⟨a, ha, rfl⟩ := h0
    refine zy_st1 ha (br_f zb_10 ?_)
    rcases Classical.em (zQ 8 p1) with h1 | h1
    · obtain ⟨b, hb, rfl⟩ := h1
      refine zy_st1 hb (br_f zb_10 ?_)
      rcases zQ_n (n := 3) (by decide) (fun z => h ⟨⟨a, ha, rfl⟩, ⟨b, hb, rfl⟩, z⟩) with z | ⟨z, z'⟩
      · exact br_t z H
      · exact br_f z (br_f (zk_2n z') H)
    · exact zy_st0 h1 (br_t rfl H)
  · exact zy_st0 h0 (br_t rfl H)
/-! cut -/
theorem zy_step1 {post : Int32 → Prop} {a b l : Nat} (ha : a < 8) (hb : b < 8) (hl : l < 3) (t : zS nx l a b → post 1) (f : ¬ zS nx l a b → post 0) : wpY_step post (nx, fa, to, ke, af) (nI a) (nI b) (nI l) := by
  unfold wpY_step
  dsimp only
  rw [zi_y, nI_clamp (by omega)]
  exact zy_st1 ha (br_f zb_10 (zy_st1 hb (br_f zb_10 (br_f (nI_pos (by omega)) (br_f (zk_2f hl) ⟨vp_in_nI (by omega) (by decide), zb_br1 (by omega) t (fun h => f (by unfold zS; rw [h]; exact Bool.false_ne_true))⟩)))))
theorem zy_step0 {post : Int32 → Prop} {p0 p1 p2 : Int32} (h : ¬ zQs p0 p1 p2) (H : post 0) : wpY_step post (nx, fa, to, ke, af) p0 p1 p2 := by
  unfold wpY_step
  dsimp only
  rcases Classical.em (zQ 8 p0) with h0 | h0
  · obtain ⟨a, ha, rfl⟩ := h0
    refine zy_st1 ha (br_f zb_10 ?_)
    rcases Classical.em (zQ 8 p1) with h1 | h1
    · obtain ⟨b, hb, rfl⟩ := h1
      refine zy_st1 hb (br_f zb_10 ?_)
      rcases zQ_n (n := 3) (by decide) (fun z => h ⟨⟨a, ha, rfl⟩, ⟨b, hb, rfl⟩, z⟩) with z | ⟨z, z'⟩
      · exact br_t z H
      · exact br_f z (br_t (zk_2 z') H)
    · exact zy_st0 h1 (br_t rfl H)
  · exact zy_st0 h0 (br_t rfl H)
theorem zy_cut1 {post : Int32 → SY → Prop} {a b l : Nat} (ha : a < 8) (hb : b < 8) (hl : l < 3) (hs : zS nx l a b) (H : post 1 (upd nx (8 * l + a) (nx (8 * l + a) &&& (((1 : Int32) <<< (nI b &&& 31)) ^^^ (-1))), fa, to, ke, af)) : wpY_cut post (nx, fa, to, ke, af) (nI a) (nI b) (nI l) := by
  unfold wpY_cut
  dsimp only
  rw [zi_y, nI_clamp (by omega)]
  exact zy_step1 ha hb hl (fun _ => br_f zb_10 ⟨vp_in_nI (by omega) (by decide), vp_in_nI (by omega) (by decide), nm_e H⟩) (fun n => absurd hs n)
theorem zy_cut0 {post : Int32 → SY → Prop} {a b l : Nat} (ha : a < 8) (hb : b < 8) (hl : l < 3) (hs : ¬ zS nx l a b) (H : post 0 (nx, fa, to, ke, af)) : wpY_cut post (nx, fa, to, ke, af) (nI a) (nI b) (nI l) := by
  unfold wpY_cut
  dsimp only
  exact zy_step1 ha hb hl (fun s => absurd s hs) (fun _ => br_t rfl H)
theorem zy_cutq {post : Int32 → SY → Prop} {p0 p1 p2 : Int32} (h : ¬ zQs p0 p1 p2) (H : post 0 (nx, fa, to, ke, af)) : wpY_cut post (nx, fa, to, ke, af) p0 p1 p2 := by
  unfold wpY_cut
  dsimp only
  exact zy_step0 h (br_t rfl H)
end
theorem i_vc_join {k : Nat} {u : SX} {v : SY} (I : i_Rel k u v) (hk : k + 4 ≤ 2048) (v1 : Int32) (v2 : Int32) (v3 : Int32) : wpX_join (fun r u' => wpY_join (fun r' v' => r' = r ∧ i_Rel (k + 4) u' v') v v1 v2 v3) u v1 v2 v3 := by
  refine zr_e (k := k) (P := fun u v => wpX_join (fun r u' => wpY_join (fun r' v' => r' = r ∧ i_Rel (k + 4) u' v') v v1 v2 v3) u v1 v2 v3) ?_ I
  intro lr nx ln go ng tr fs fa to ke af hn
  unfold wpX_join
  dsimp only
  rcases Classical.em (zQs v1 v2 v3) with h | h
  · obtain ⟨⟨a, ha, rfl⟩, ⟨b, hb, rfl⟩, ⟨l, hl, rfl⟩⟩ := h
    refine zx_sp1 ha hb hl (br_f zb_10 (zx_hsb ha hb hl (fun f => ?_) (fun t => ?_)))
    · refine zx_turn ha hb hl hn (zy_join1 ha hb hl ⟨rfl, ?_⟩)
      have e : bt (nx (8 * l + a)) b = false := Bool.eq_false_iff.mpr f
      rw [← zb_xorF (by omega) e]
      exact zr_i (zn_up hn (zt_sm hb (hn _ (by omega))))
    · refine zy_join1 ha hb hl ⟨rfl, ?_⟩
      have e : bt (nx (8 * l + a)) b = true := t
      rw [zb_orT (by omega) e, zu_id]
      exact zr_i hn
  · exact zx_sp0 h (br_t rfl (zy_join0 h ⟨rfl, zr_i hn⟩))
theorem i_vc_cut {k : Nat} {u : SX} {v : SY} (I : i_Rel k u v) (hk : k + 4 ≤ 2048) (v1 : Int32) (v2 : Int32) (v3 : Int32) : wpX_cut (fun r u' => wpY_cut (fun r' v' => r' = r ∧ i_Rel (k + 4) u' v') v v1 v2 v3) u v1 v2 v3 := by
  refine zr_e (k := k) (P := fun u v => wpX_cut (fun r u' => wpY_cut (fun r' v' => r' = r ∧ i_Rel (k + 4) u' v') v v1 v2 v3) u v1 v2 v3) ?_ I
  intro lr nx ln go ng tr fs fa to ke af hn
  unfold wpX_cut
  dsimp only
  rcases Classical.em (zQs v1 v2 v3) with h | h
  · obtain ⟨⟨a, ha, rfl⟩, ⟨b, hb, rfl⟩, ⟨l, hl, rfl⟩⟩ := h
    refine zx_sp1 ha hb hl (br_f zb_10 (zx_hsb ha hb hl (fun f => ?_) (fun t => ?_)))
    · exact zy_cut0 ha hb hl f ⟨rfl, zr_i hn⟩
    · refine zx_turn ha hb hl hn (zy_cut1 ha hb hl t ⟨rfl, ?_⟩)
      have e : bt (nx (8 * l + a)) b = true := t
      rw [← zb_xorT (by omega) e]
      exact zr_i (zn_up hn (zt_sm hb (hn _ (by omega))))
  · exact zx_sp0 h (br_t rfl (zy_cutq h ⟨rfl, zr_i hn⟩))
theorem i_vc_after {k : Nat} {u : SX} {v : SY} (I : i_Rel k u v) (hk : k + 4 ≤ 2048) (v1 : Int32) (v2 : Int32) : wpX_after (fun r => wpY_after (fun r' => r' = r ∧ i_Rel (k + 4) u v) v v1 v2) u v1 v2 := by
  refine zr_e (k := k) (P := fun u v => wpX_after (fun r => wpY_after (fun r' => r' = r ∧ i_Rel (k + 4) u v) v v1 v2) u v1 v2) ?_ I
  intro lr nx ln go ng tr fs fa to ke af hn
  unfold wpX_after wpY_after
  dsimp only
  have q0 : zQ 8 0 := ⟨0, by decide, rfl⟩
  rcases Classical.em (zQ 8 v1) with h1 | h1
  · obtain ⟨a, ha, rfl⟩ := h1
    rcases Classical.em (zQ 3 v2) with h2 | h2
    · obtain ⟨l, hl, rfl⟩ := h2
      rw [zi_x, zi_y, nI_clamp (by omega)]
      exact zx_sp1 (b := 0) ha (by decide) hl (br_f zb_10 ⟨vp_in_nI (by omega) (by decide), zy_st1 ha (br_f zb_10 (br_f (nI_pos (by omega)) (br_f (zk_2f hl) ⟨vp_in_nI (by omega) (by decide), rfl, zr_i hn⟩)))⟩)
    · refine zx_sp0 (fun z => h2 z.2.2) (br_t rfl (zy_st1 ha (br_f zb_10 ?_)))
      rcases zQ_n (n := 3) (by decide) h2 with z | ⟨z, z'⟩
      · exact br_t z ⟨rfl, zr_i hn⟩
      · exact br_f z (br_t (zk_2 z') ⟨rfl, zr_i hn⟩)
  · exact zx_sp0 (fun z => h1 z.1) (br_t rfl (zy_st0 h1 (br_t rfl ⟨rfl, zr_i hn⟩)))
/-! steps -/
def zc_n (f : Nat → Nat) : Nat → Nat
  | 0 => 0
  | n + 1 => zc_n f n + f n
theorem zc_add (f : Nat → Nat) (m : Nat) : ∀ k, zc_n f (m + k) = zc_n f m + zc_n (fun i => f (m + i)) k
  | 0 => rfl
  | k + 1 => by
    show zc_n f (m + k) + f (m + k) = zc_n f m + (zc_n (fun i => f (m + i)) k + f (m + k))
    rw [zc_add f m k, Nat.add_assoc]
theorem zc_eq {f g : Nat → Nat} : ∀ k, (∀ i, i < k → f i = g i) → zc_n f k = zc_n g k
  | 0, _ => rfl
  | k + 1, h => by
    show zc_n f k + f k = zc_n g k + g k
    rw [zc_eq k (fun i hi => h i (by omega)), h k (by omega)]
theorem zc_blk (f : Nat → Nat → Nat) : ∀ k, zc_n (fun c => f (c / 8) (c % 8)) (8 * k) = zc_n (fun a => zc_n (f a) 8) k
  | 0 => rfl
  | k + 1 => by
    rw [Nat.mul_succ, zc_add, zc_blk f k]
    show _ = zc_n (fun a => zc_n (f a) 8) k + zc_n (f k) 8
    refine congrArg (zc_n (fun a => zc_n (f a) 8) k + ·) (zc_eq 8 (fun i hi => ?_))
    rw [show (8 * k + i) / 8 = k by omega, show (8 * k + i) % 8 = i by omega]
section
variable {lr : Int32} {nx ln go ng tr fs fa to ke af : Nat → Int32}
theorem zx_ones4 {post : Int32 → Prop} {x : Int32} (H : post (nI (zc_n (fun b => (bt x b).toNat) 8))) : ∀ d i, i + d = 8 → wX_ones_4 post x (d + 1) (nI (zc_n (fun b => (bt x b).toNat) i)) (nI i) := by
  intro d
  induction d with
  | zero =>
    intro i hi
    have e : i = 8 := by omega
    subst e
    exact br_t zk_8t H
  | succ d ih =>
    intro i hi
    refine br_f (zk_8f (by omega)) (nm_r ?_ (nm_r (nI_1 i) (ih (i + 1) (by omega))))
    rw [zb_v x (by omega), nI_add]
    rfl
theorem zx_ones {post : Int32 → Prop} {x : Int32} (H : post (nI (zc_n (fun b => (bt x b).toNat) 8))) : wpX_ones post x := ⟨9, zx_ones4 H 8 0 rfl⟩
theorem zx_steps4 {post : Int32 → Prop} (H : post (nI (zc_n (fun c => zc_n (fun b => (bt (nx c) b).toNat) 8) 24))) : ∀ d i, i + d = 24 → wX_steps_4 post lr nx ln go ng tr fs (d + 1) (nI (zc_n (fun c => zc_n (fun b => (bt (nx c) b).toNat) 8) i)) (nI i) := by
  intro d
  induction d with
  | zero =>
    intro i hi
    have e : i = 24 := by omega
    subst e
    exact br_t zk_24t H
  | succ d ih =>
    intro i hi
    refine br_f (zk_24f (by omega)) ⟨vp_in_nI (by omega) (by decide), ?_⟩
    rw [nI_clamp (by omega)]
    refine zx_ones (nm_r ?_ (nm_r (nI_1 i) (ih (i + 1) (by omega))))
    rw [nI_add]
    rfl
theorem zy_steps4 {post : Int32 → Prop} (H : post (nI (zc_n (fun c => (bt (nx (c / 8)) (c % 8)).toNat) 192))) : ∀ d i, i + d = 192 → wY_steps_4 post nx fa to ke af (d + 1) (nI (zc_n (fun c => (bt (nx (c / 8)) (c % 8)).toNat) i)) (nI i) := by
  intro d
  induction d with
  | zero =>
    intro i hi
    have e : i = 192 := by omega
    subst e
    exact br_t zk_192t H
  | succ d ih =>
    intro i hi
    refine br_f (zk_192f (by omega)) ?_
    rw [zi_m (by omega), zi_d (by omega), nI_clamp (by omega), zb_v _ (by omega), nI_add]
    exact ⟨zi_80, vp_in_nI (by omega) (by decide), zi_80, nm_e (nm_r (nI_1 i) (ih (i + 1) (by omega)))⟩
end
theorem i_vc_steps {k : Nat} {u : SX} {v : SY} (I : i_Rel k u v) (hk : k + 4 ≤ 2048) : wpX_steps (fun r => wpY_steps (fun r' => r' = r ∧ i_Rel (k + 4) u v) v) u := by
  refine zr_e (k := k) (P := fun u v => wpX_steps (fun r => wpY_steps (fun r' => r' = r ∧ i_Rel (k + 4) u v) v) u) ?_ I
  intro lr nx ln go ng tr fs fa to ke af hn
  refine ⟨25, zx_steps4 ?_ 24 0 rfl⟩
  refine ⟨193, zy_steps4 ⟨?_, zr_i hn⟩ 192 0 rfl⟩
  exact congrArg nI (zc_blk (fun a b => (bt (nx a) b).toNat) 24)
end
section
/-! silent closure and long steps -/
theorem zu_lt {P : Nat → Int32 → Prop} {f : Nat → Int32} {i : Nat} {x : Int32} (h : ∀ a, a < i → P a (f a)) (hx : P i x) : ∀ a, a < i + 1 → P a (upd f i x a) := fun a ha => by
  by_cases e : a = i
  · subst e; rw [pk_us]; exact hx
  · rw [pk_un e]; exact h a (by omega)
theorem zl_mk {nx : Nat → Int32} {l a : Nat} {first mid r : Int32} (hl : l ≠ 0) (h1 : zs_Is first (zp_Re (zS nx 0) a)) (hm : zo_I (fun b => bt first b = true) (fun b j => zS nx l b j) 8 mid) (hr : zo_I (fun b => bt mid b = true) (fun b j => j < 8 ∧ zp_Re (zS nx 0) b j) 8 r) : zs_Is r (zL nx l a) := fun j => by
  rw [hr j, ← zL_n hl]
  constructor
  · rintro ⟨c, hc, m, hj, q⟩
    obtain ⟨b, hb, m1, m2⟩ := (hm c).mp m
    exact ⟨hj, c, hc, ⟨b, hb, ((h1 b).mp m1).2, m2⟩, q⟩
  · rintro ⟨hj, c, hc, ⟨b, hb, m1, m2⟩, q⟩
    exact ⟨c, hc, (hm c).mpr ⟨b, hb, (h1 b).mpr ⟨hb, m1⟩, m2⟩, hj, q⟩
def zl_I (nx : Nat → Int32) (i m : Nat) (lm : Nat → Int32) : Prop := (∀ a, a < 8 → zs_Is (lm a) (zp_Re (zS nx 0) a)) ∧ (∀ a l, a < 8 → 1 ≤ l → l < 3 → (a < i ∨ (a = i ∧ l < m)) → zs_Is (lm (8 * l + a)) (zL nx l a))
theorem zl_up {nx lm : Nat → Int32} {i m : Nat} {r : Int32} (h : zl_I nx i m lm) (hi : i < 8) (h1 : 1 ≤ m) (hm : m < 3) (hr : zs_Is r (zL nx m i)) : zl_I nx i (m + 1) (upd lm (8 * m + i) r) := by
  refine ⟨fun a ha => ?_, fun a l ha l1 l3 q => ?_⟩
  · rw [pk_un (by omega)]
    exact h.1 a ha
  · by_cases e : 8 * l + a = 8 * m + i
    · have e1 : l = m := by omega
      have e2 : a = i := by omega
      subst e1 e2
      rw [pk_us]
      exact hr
    · rw [pk_un e]
      exact h.2 a l ha l1 l3 (by omega)
theorem zl_nx {nx lm : Nat → Int32} {i : Nat} (h : zl_I nx i 3 lm) : zl_I nx (i + 1) 1 lm := ⟨h.1, fun a l ha l1 l3 q => h.2 a l ha l1 l3 (by omega)⟩
theorem zl_en {nx lm : Nat → Int32} (h : zl_I nx 8 1 lm) : zRp lm (zL nx) := fun l a hl ha => by
  rcases Nat.eq_zero_or_pos l with e | e
  · subst e
    rw [Nat.mul_zero, Nat.zero_add]
    exact fun j => (h.1 a ha j).trans (and_congr_right fun _ => zL_0)
  · exact h.2 a l ha e hl (Or.inl ha)
section
variable {lr : Int32} {nx ln go ng tr fs fa to ke af : Nat → Int32}
theorem zx_sf15 {post : Int32 → Prop} {J : Int32 → Int32 → Prop} {x3 s0 : Int32} (hn : zn_Ok nx) (H : ∀ s, zp_I (zS nx 0) s0 8 s → J s (x3 + 1)) : ∀ d i s, i + d = 8 → zp_I (zS nx 0) s0 i s → wX_silentFrom_15 post J x3 lr nx ln go ng tr fs (d + 1) s (nI i) := by
  intro d
  induction d with
  | zero =>
    intro i s hi h
    have e : i = 8 := by omega
    subst e
    exact br_t zk_8t (nm_e (H s h))
  | succ d ih =>
    intro i s hi h
    refine br_f (zk_8f (by omega)) (zx_inb (by omega) (fun f => nm_r (zs_or0 s) (nm_r (nI_1 i) (ih (i + 1) s (by omega) (zp_If h (fun z => ?_))))) (fun t => ⟨vp_in_nI (by omega) (by decide), ?_⟩))
    · have q := h.2.1 i z
      rw [f] at q
      cases q
    · rw [nI_clamp (by omega)]
      exact nm_e (nm_r (nI_1 i) (ih (i + 1) _ (by omega) (zp_It h (by omega) t (fun j => zS_0.symm) (fun j q => zs_lt (hn i (by omega)) (zS_0.mp q)))))
theorem zx_sf6 {post : Int32 → Prop} {a : Nat} (hn : zn_Ok nx) (H : ∀ r, zs_Is r (zp_Re (zS nx 0) a) → post r) : ∀ d k s, k + d = 8 → zp_K (zS nx 0) a k s → wX_silentFrom_6 post lr nx ln go ng tr fs (d + 1) s (nI k) := by
  intro d
  induction d with
  | zero =>
    intro i s hi h
    have e : i = 8 := by omega
    subst e
    exact br_t zk_8t (H s (zp_Ke h))
  | succ d ih =>
    intro i s hi h
    refine br_f (zk_8f (by omega)) ⟨9, zx_sf15 hn (fun s' p => ?_) 8 0 s rfl (zp_I0 h.1)⟩
    rw [nI_1]
    exact ih (i + 1) s' (by omega) (zp_Ks h p)
theorem zx_sf {post : Int32 → Prop} {a : Nat} (ha : a < 8) (hn : zn_Ok nx) (H : ∀ r, zs_Is r (zp_Re (zS nx 0) a) → post r) : wpX_silentFrom post (lr, nx, ln, go, ng, tr, fs) (nI a) := by
  unfold wpX_silentFrom
  dsimp only
  exact nm_e ⟨9, zx_sf6 hn H 8 0 _ rfl (zp_K0 ha)⟩
theorem zx_lf57 {post : Int32 → Prop} {mid : Int32} (hln : ∀ a, a < 8 → zs_Is (ln a) (zp_Re (zS nx 0) a)) (H : ∀ r, zo_I (fun b => bt mid b = true) (fun b j => j < 8 ∧ zp_Re (zS nx 0) b j) 8 r → post r) : ∀ d i s, i + d = 8 → zo_I (fun b => bt mid b = true) (fun b j => j < 8 ∧ zp_Re (zS nx 0) b j) i s → wX_longFrom_57 post mid lr nx ln go ng tr fs (d + 1) s (nI i) := by
  intro d
  induction d with
  | zero =>
    intro i s hi h
    have e : i = 8 := by omega
    subst e
    exact br_t zk_8t (H s h)
  | succ d ih =>
    intro i s hi h
    refine br_f (zk_8f (by omega)) (zx_inb (by omega) (fun f => nm_e (nm_r (nI_1 i) (ih (i + 1) _ (by omega) (zo_f0 h (Bool.eq_false_iff.mp f))))) (fun t => ⟨vp_in_nI (by omega) (by decide), ?_⟩))
    rw [nI_clamp (by omega)]
    exact nm_e (nm_r (nI_1 i) (ih (i + 1) _ (by omega) (zo_t h t (hln i (by omega)))))
theorem zx_lf5 {post : Int32 → Prop} {a l : Nat} (ha : a < 8) (hl : l < 3) (H : ∀ mid, zo_I (fun b => bt (ln a) b = true) (fun b j => zS nx l b j) 8 mid → ∃ n, wX_longFrom_57 post mid lr nx ln go ng tr fs n 0 0) : ∀ d i s, i + d = 8 → zo_I (fun b => bt (ln a) b = true) (fun b j => zS nx l b j) i s → wX_longFrom_5 post (nI a) (nI l) lr nx ln go ng tr fs (d + 1) s (nI i) := by
  intro d
  induction d with
  | zero =>
    intro i s hi h
    have e : i = 8 := by omega
    subst e
    exact br_t zk_8t (H s h)
  | succ d ih =>
    intro i s hi h
    refine br_f (zk_8f (by omega)) ⟨vp_in_nI (by omega) (by decide), ?_⟩
    rw [zi_x, nI_clamp (n := a) (by omega), nI_clamp (n := 8 * l + i) (by omega)]
    exact zx_inb (by omega) (fun f => nm_e (nm_r (nI_1 i) (ih (i + 1) _ (by omega) (zo_f0 h (Bool.eq_false_iff.mp f))))) (fun t => ⟨vp_in_nI (by omega) (by decide), nm_e (nm_r (nI_1 i) (ih (i + 1) _ (by omega) (zo_t h t (fun j => Iff.rfl))))⟩)
theorem zx_lf {post : Int32 → Prop} {a l : Nat} (ha : a < 8) (hl : l < 3) (h0 : l ≠ 0) (hln : ∀ a, a < 8 → zs_Is (ln a) (zp_Re (zS nx 0) a)) (H : ∀ r, zs_Is r (zL nx l a) → post r) : wpX_longFrom post (lr, nx, ln, go, ng, tr, fs) (nI a) (nI l) := by
  unfold wpX_longFrom
  dsimp only
  exact ⟨9, zx_lf5 ha hl (fun mid hm => ⟨9, zx_lf57 hln (fun r hr => H r (zl_mk h0 (hln a ha) hm hr)) 8 0 0 rfl zo_0⟩) 8 0 0 rfl zo_0⟩
theorem zx_le36 {post : SX → Prop} {J : Int32 → (Nat → Int32) → (Nat → Int32) → (Nat → Int32) → (Nat → Int32) → (Nat → Int32) → (Nat → Int32) → Prop} {i : Nat} (hi : i < 8) (H : ∀ lm, zl_I nx i 3 lm → J (nI i + 1) nx lm go ng tr fs) : ∀ d m lm, m + d = 3 → 1 ≤ m → zl_I nx i m lm → wX_lengthen_36 post J (nI i) lr (d + 1) (nI m) nx lm go ng tr fs := by
  intro d
  induction d with
  | zero =>
    intro m lm hm h1 h
    have e : m = 3 := by omega
    subst e
    exact br_t zk_3t (nm_e (H lm h))
  | succ d ih =>
    intro m lm hm h1 h
    refine br_f (zk_3f (by omega)) (zx_lf hi (by omega) (by omega) h.1 (fun r hr => ?_))
    rw [zi_x, nI_clamp (by omega), zs_nar (zs_sm hr)]
    exact ⟨vp_in_nI (by omega) (by decide), nm_e (nm_r (nI_1 m) (ih (m + 1) _ (by omega) (by omega) (zl_up h hi h1 (by omega) hr)))⟩
theorem zx_le28 {post : SX → Prop} (H : ∀ lm, zRp lm (zL nx) → post (lr, nx, lm, go, ng, tr, fs)) : ∀ d i lm, i + d = 8 → zl_I nx i 1 lm → wX_lengthen_28 post lr (d + 1) (nI i) nx lm go ng tr fs := by
  intro d
  induction d with
  | zero =>
    intro i lm hi h
    have e : i = 8 := by omega
    subst e
    exact br_t zk_8t (H lm (zl_en h))
  | succ d ih =>
    intro i lm hi h
    refine br_f (zk_8f (by omega)) ⟨3, zx_le36 (by omega) (fun lm' h' => ?_) 2 1 lm rfl (Nat.le_refl 1) h⟩
    rw [nI_1]
    exact ih (i + 1) lm' (by omega) (zl_nx h')
theorem zx_le2 {post : SX → Prop} (hn : zn_Ok nx) (H : ∀ lm, zRp lm (zL nx) → post (lr, nx, lm, go, ng, tr, fs)) : ∀ d i lm, i + d = 8 → (∀ a, a < i → zs_Is (lm a) (zp_Re (zS nx 0) a)) → wX_lengthen_2 post lr (d + 1) (nI i) nx lm go ng tr fs := by
  intro d
  induction d with
  | zero =>
    intro i lm hi h
    have e : i = 8 := by omega
    subst e
    exact br_t zk_8t ⟨9, zx_le28 H 8 0 lm rfl ⟨h, fun a l _ _ _ q => by omega⟩⟩
  | succ d ih =>
    intro i lm hi h
    refine br_f (zk_8f (by omega)) (zx_sf (by omega) hn (fun r hr => ?_))
    rw [nI_clamp (by omega), zs_nar (zs_sm hr)]
    exact ⟨vp_in_nI (by omega) (by decide), nm_e (nm_r (nI_1 i) (ih (i + 1) _ (by omega) (zu_lt (P := fun a y => zs_Is y (zp_Re (zS nx 0) a)) h hr)))⟩
theorem zx_len {post : SX → Prop} (hn : zn_Ok nx) (H : ∀ lm, zRp lm (zL nx) → post (lr, nx, lm, go, ng, tr, fs)) : wpX_lengthen post (lr, nx, ln, go, ng, tr, fs) := by
  unfold wpX_lengthen
  dsimp only
  exact ⟨9, zx_le2 hn H 8 0 ln rfl (fun a ha => absurd ha (Nat.not_lt_zero a))⟩
/-! the reference's -/
theorem zy_on5 {post : Int32 → Prop} {s0 : Int32} (hn : zn_Ok nx) (H : ∀ s, zp_I (zS nx 0) s0 8 s → post s) : ∀ d i s, i + d = 8 → zp_I (zS nx 0) s0 i s → wY_onward_5 post s0 (nI 0) nx fa to ke af (d + 1) s (nI i) := by
  intro d
  induction d with
  | zero =>
    intro i s hi h
    have e : i = 8 := by omega
    subst e
    exact br_t zk_8t (H s h)
  | succ d ih =>
    intro i s hi h
    refine br_f (zk_8f (by omega)) ?_
    rw [zi_y, nI_clamp (by omega)]
    exact zb_br1 (by omega) (fun t => ⟨vp_in_nI (by omega) (by decide), nm_e (nm_r (nI_1 i) (ih (i + 1) _ (by omega) (zp_It h (by omega) (h.2.1 i t) (fun j => Iff.rfl) (fun j q => zs_lt (hn _ (by omega)) q))))⟩) (fun f => nm_r (nI_1 i) (ih (i + 1) s (by omega) (zp_If h (Bool.eq_false_iff.mp f))))
theorem zy_on {post : Int32 → Prop} {s0 : Int32} (hn : zn_Ok nx) (hs : ∀ j, bt s0 j = true → j < 8) (H : ∀ s, zp_I (zS nx 0) s0 8 s → post s) : wpY_onward post (nx, fa, to, ke, af) s0 0 := by
  unfold wpY_onward
  dsimp only
  exact ⟨9, zy_on5 hn H 8 0 s0 rfl (zp_I0 hs)⟩
theorem zy_q6 {post : Int32 → Prop} {a : Nat} (hn : zn_Ok nx) (H : ∀ r, zs_Is r (zp_Re (zS nx 0) a) → post r) : ∀ d k s, k + d = 8 → zp_K (zS nx 0) a k s → wY_quietly_6 post nx fa to ke af (d + 1) s (nI k) := by
  intro d
  induction d with
  | zero =>
    intro i s hi h
    have e : i = 8 := by omega
    subst e
    exact br_t zk_8t (H s (zp_Ke h))
  | succ d ih =>
    intro i s hi h
    exact br_f (zk_8f (by omega)) (zy_on hn h.1 (fun s' p => nm_r (nI_1 i) (ih (i + 1) s' (by omega) (zp_Ks h p))))
theorem zy_q {post : Int32 → Prop} {a : Nat} (ha : a < 8) (hn : zn_Ok nx) (H : ∀ r, zs_Is r (zp_Re (zS nx 0) a) → post r) : wpY_quietly post (nx, fa, to, ke, af) (nI a) := by
  unfold wpY_quietly
  dsimp only
  exact nm_e ⟨9, zy_q6 hn H 8 0 _ rfl (zp_K0 ha)⟩
theorem zy_la63 {post : Int32 → Prop} {mid : Int32} (hn : zn_Ok nx) (H : ∀ r, zo_I (fun b => bt mid b = true) (fun b j => j < 8 ∧ zp_Re (zS nx 0) b j) 8 r → post r) : ∀ d i s, i + d = 8 → zo_I (fun b => bt mid b = true) (fun b j => j < 8 ∧ zp_Re (zS nx 0) b j) i s → wY_labelled_63 post mid nx fa to ke af (d + 1) s (nI i) := by
  intro d
  induction d with
  | zero =>
    intro i s hi h
    have e : i = 8 := by omega
    subst e
    exact br_t zk_8t (H s h)
  | succ d ih =>
    intro i s hi h
    exact br_f (zk_8f (by omega)) (zb_br1 (by omega) (fun t => zy_q (by omega) hn (fun r hr => nm_e (nm_r (nI_1 i) (ih (i + 1) _ (by omega) (zo_t h t hr))))) (fun f => nm_r (nI_1 i) (ih (i + 1) s (by omega) (zo_f h (Bool.eq_false_iff.mp f)))))
theorem zy_la12 {post : Int32 → Prop} {l : Nat} {first : Int32} (hl : l < 3) (H : ∀ mid, zo_I (fun b => bt first b = true) (fun b j => zS nx l b j) 8 mid → ∃ n, wY_labelled_63 post mid nx fa to ke af n 0 0) : ∀ d i s, i + d = 8 → zo_I (fun b => bt first b = true) (fun b j => zS nx l b j) i s → wY_labelled_12 post (nI l) first nx fa to ke af (d + 1) s (nI i) := by
  intro d
  induction d with
  | zero =>
    intro i s hi h
    have e : i = 8 := by omega
    subst e
    exact br_t zk_8t (H s h)
  | succ d ih =>
    intro i s hi h
    refine br_f (zk_8f (by omega)) ?_
    rw [zi_y, nI_clamp (by omega)]
    exact zb_br1 (by omega) (fun t => ⟨vp_in_nI (by omega) (by decide), nm_e (nm_r (nI_1 i) (ih (i + 1) _ (by omega) (zo_t h t (fun j => Iff.rfl))))⟩) (fun f => nm_r (nI_1 i) (ih (i + 1) s (by omega) (zo_f h (Bool.eq_false_iff.mp f))))
theorem zy_la {post : Int32 → Prop} {a l : Nat} (ha : a < 8) (hl : l < 3) (h0 : l ≠ 0) (hn : zn_Ok nx) (H : ∀ r, zs_Is r (zL nx l a) → post r) : wpY_labelled post (nx, fa, to, ke, af) (nI a) (nI l) := by
  unfold wpY_labelled
  dsimp only
  exact zy_q ha hn (fun first h1 => ⟨9, zy_la12 hl (fun mid hm => ⟨9, zy_la63 hn (fun r hr => H r (zl_mk h0 h1 hm hr)) 8 0 0 rfl zo_0⟩) 8 0 0 rfl zo_0⟩)
theorem zi_8 (i : Nat) : 8 + nI i = nI (8 + i) := nI_add 8 i
theorem zi_16 (i : Nat) : 16 + nI i = nI (16 + i) := nI_add 16 i
def zyl_I (nx : Nat → Int32) (i : Nat) (fm : Nat → Int32) : Prop := ∀ a l, a < i → l < 3 → zs_Is (fm (8 * l + a)) (zL nx l a)
theorem zyl_up {fm : Nat → Int32} {i : Nat} {r0 r1 r2 : Int32} (hi : i < 8) (h : zyl_I nx i fm) (h0 : zs_Is r0 (zp_Re (zS nx 0) i)) (h1 : zs_Is r1 (zL nx 1 i)) (h2 : zs_Is r2 (zL nx 2 i)) : zyl_I nx (i + 1) (upd (upd (upd fm i r0) (8 + i) r1) (16 + i) r2) := fun a l ha hl => by
  rcases Nat.lt_or_ge a i with g | g
  · rw [pk_un (by omega), pk_un (by omega), pk_un (by omega)]
    exact h a l g hl
  · have e : a = i := by omega
    subst e
    have q : l = 0 ∨ l = 1 ∨ l = 2 := by omega
    rcases q with q | q | q
    · subst q
      rw [pk_un (by omega), pk_un (by omega), show 8 * 0 + a = a by omega, pk_us]
      exact fun j => (h0 j).trans (and_congr_right fun _ => zL_0)
    · subst q
      rw [pk_un (by omega), show 8 * 1 + a = 8 + a by omega, pk_us]
      exact h1
    · subst q
      rw [show 8 * 2 + a = 16 + a by omega, pk_us]
      exact h2
theorem zy_ul2 {post : SY → Prop} (hn : zn_Ok nx) (H : ∀ fm, zRp fm (zL nx) → post (nx, fm, to, ke, af)) : ∀ d i fm, i + d = 8 → zyl_I nx i fm → wY_useLongSteps_2 post (d + 1) (nI i) nx fm to ke af := by
  intro d
  induction d with
  | zero =>
    intro i fm hi h
    have e : i = 8 := by omega
    subst e
    exact br_t zk_8t (H fm (fun l a hl ha => h a l ha hl))
  | succ d ih =>
    intro i fm hi h
    refine br_f (zk_8f (by omega)) (zy_q (by omega) hn (fun r0 h0 => ⟨vp_in_nI (by omega) (by decide), nm_e (zy_la (l := 1) (by omega) (by decide) (by decide) hn (fun r1 h1 => ?_))⟩))
    rw [zi_8]
    refine ⟨vp_in_nI (by omega) (by decide), nm_e (zy_la (l := 2) (by omega) (by decide) (by decide) hn (fun r2 h2 => ?_))⟩
    rw [zi_16]
    refine ⟨vp_in_nI (by omega) (by decide), nm_e (nm_r (nI_1 i) (ih (i + 1) _ (by omega) ?_))⟩
    rw [nI_clamp (by omega), nI_clamp (by omega), nI_clamp (by omega)]
    exact zyl_up (by omega) h h0 h1 h2
theorem zy_ul {post : SY → Prop} (hn : zn_Ok nx) (H : ∀ fm, zRp fm (zL nx) → post (nx, fm, to, ke, af)) : wpY_useLongSteps post (nx, fa, to, ke, af) := by
  unfold wpY_useLongSteps
  dsimp only
  exact ⟨9, zy_ul2 hn H 8 0 fa rfl (fun a l ha _ => absurd ha (Nat.not_lt_zero a))⟩
theorem zy_us2 {post : SY → Prop} (hn : zn_Ok nx) (H : ∀ fm, zRp fm (zS nx) → post (nx, fm, to, ke, af)) : ∀ d i fm, i + d = 24 → (∀ c, c < i → fm c = nx c) → wY_useSteps_2 post (d + 1) (nI i) nx fm to ke af := by
  intro d
  induction d with
  | zero =>
    intro i fm hi h
    have e : i = 24 := by omega
    subst e
    exact br_t zk_24t (H fm (zRp_c (zRp_own hn) h))
  | succ d ih =>
    intro i fm hi h
    refine br_f (zk_24f (by omega)) ⟨vp_in_nI (by omega) (by decide), vp_in_nI (by omega) (by decide), ?_⟩
    rw [nI_clamp (by omega)]
    exact nm_e (nm_r (nI_1 i) (ih (i + 1) _ (by omega) (zu_lt (P := fun c y => y = nx c) h rfl)))
theorem zy_us {post : SY → Prop} (hn : zn_Ok nx) (H : ∀ fm, zRp fm (zS nx) → post (nx, fm, to, ke, af)) : wpY_useSteps post (nx, fa, to, ke, af) := by
  unfold wpY_useSteps
  dsimp only
  exact ⟨25, zy_us2 hn H 24 0 fa rfl (fun a ha => absurd ha (Nat.not_lt_zero a))⟩
end
theorem i_vc_silently {k : Nat} {u : SX} {v : SY} (I : i_Rel k u v) (hk : k + 4 ≤ 2048) (v1 : Int32) : wpX_silently (fun r => wpY_silently (fun r' => r' = r ∧ i_Rel (k + 4) u v) v v1) u v1 := by
  refine zr_e (k := k) (P := fun u v => wpX_silently (fun r => wpY_silently (fun r' => r' = r ∧ i_Rel (k + 4) u v) v v1) u v1) ?_ I
  intro lr nx ln go ng tr fs fa to ke af hn
  unfold wpX_silently wpY_silently
  dsimp only
  rcases Classical.em (zQ 8 v1) with h | h
  · obtain ⟨a, ha, rfl⟩ := h
    exact zx_st1 ha (br_f zb_10 (zx_sf ha hn (fun r hr => zy_st1 ha (br_f zb_10 (zy_q ha hn (fun r' hr' => ⟨zs_uq hr' hr (fun _ _ => Iff.rfl), zr_i hn⟩))))))
  · exact zx_st0 h (br_t rfl (zy_st0 h (br_t rfl ⟨rfl, zr_i hn⟩)))
end
section
/-! the component's dividing of groups -/
def zTg (x1 : Int32) (nx ln T : Nat → Int32) : Prop := (x1 = 0 ∧ T = nx) ∨ (x1 = 1 ∧ T = ln)
def zSg (S : Nat → Nat → Nat → Prop) (go : Nat → Int32) (l a : Nat) (r : Int32) : Prop := zo_I (fun b => S l a b) (fun b j => j < 8 ∧ go b = nI j) 8 r
def zZ (S : Nat → Nat → Nat → Prop) (E : Nat → Nat → Prop) (l a b : Nat) : Prop := (∀ c, c < 8 → S l a c → ∃ d, d < 8 ∧ S l b d ∧ E c d) ∧ (∀ c, c < 8 → S l b c → ∃ d, d < 8 ∧ S l a d ∧ E c d)
theorem zZ_D {S : Nat → Nat → Nat → Prop} {E : Nat → Nat → Prop} {a b : Nat} : (∀ l, l < 3 → zZ S E l a b) ↔ (zD S E a b ∧ zD S E b a) :=
  ⟨fun h => ⟨fun l c hl hc s => (h l hl).1 c hc s, fun l c hl hc s => (h l hl).2 c hc s⟩, fun h l hl => ⟨fun c hc s => h.1 l c hl hc s, fun c hc s => h.2 l c hl hc s⟩⟩
theorem zSg_e {S : Nat → Nat → Nat → Prop} {k l a b : Nat} {go : Nat → Int32} {r r' : Int32} (hG : zG (zE S k) 8 go) (h1 : zSg S go l a r) (h2 : zSg S go l b r') : r = r' ↔ zZ S (zE S k) l a b := by
  have key : ∀ (a b : Nat) (r : Int32), zSg S go l a r → zSg S go l b r → ∀ c, c < 8 → S l a c → ∃ d, d < 8 ∧ S l b d ∧ zE S k c d := fun a b r h1 h2 c hc s => by
    obtain ⟨g, hg, eg, _⟩ := hG c hc
    have q : bt r g = true := (h1 g).mpr ⟨c, hc, s, by omega, eg⟩
    obtain ⟨d, hd, s', _, ed⟩ := (h2 g).mp q
    exact ⟨d, hd, s', (zG_e hG (Nat.le_refl 8) hc hd).mp (eg.trans ed.symm)⟩
  have key2 : ∀ (a b : Nat) (r r' : Int32) (j : Nat), zSg S go l a r → zSg S go l b r' → (∀ c, c < 8 → S l a c → ∃ d, d < 8 ∧ S l b d ∧ zE S k c d) → bt r j = true → bt r' j = true := fun a b r r' j h1 h2 x q => by
    obtain ⟨c, hc, s, hj, e⟩ := (h1 j).mp q
    obtain ⟨d, hd, s', w⟩ := x c hc s
    exact (h2 j).mpr ⟨d, hd, s', hj, ((zG_e hG (Nat.le_refl 8) hc hd).mpr w).symm.trans e⟩
  constructor
  · intro e
    subst e
    exact ⟨key a b r h1 h2, key b a r h2 h1⟩
  · rintro ⟨x, y⟩
    apply b_ext
    intro j _
    rw [Bool.eq_iff_iff]
    exact ⟨key2 a b r r' j h1 h2 x, key2 b a r' r j h2 h1 y⟩
theorem zFl_or {x y : Int32} {P Q : Prop} (h : zFl x P) (h' : zFl y Q) : zFl (x ||| y) (P ∨ Q) := by
  rcases h with ⟨rfl, p⟩ | ⟨rfl, p⟩ <;> rcases h' with ⟨rfl, q⟩ | ⟨rfl, q⟩
  · exact Or.inl ⟨by decide, Or.inl p⟩
  · exact Or.inl ⟨by decide, Or.inl p⟩
  · exact Or.inl ⟨by decide, Or.inr q⟩
  · exact Or.inr ⟨by decide, fun z => z.elim p q⟩
theorem zM_blk {S : Nat → Nat → Nat → Prop} {k a : Nat} : (zM S k (8 * a) ∨ ∃ b, b < 8 ∧ zMp S k (8 * a + b)) ↔ zM S k (8 * (a + 1)) := by
  constructor
  · rintro (⟨c, hc, h⟩ | ⟨b, hb, h⟩)
    · exact ⟨c, by omega, h⟩
    · exact ⟨8 * a + b, by omega, h⟩
  · rintro ⟨c, hc, h⟩
    rcases Nat.lt_or_ge c (8 * a) with g | g
    · exact Or.inl ⟨c, g, h⟩
    · refine Or.inr ⟨c - 8 * a, by omega, ?_⟩
      rw [show 8 * a + (c - 8 * a) = c by omega]
      exact h
theorem zs_z : vp_nar .byte 0 = nI 0 := zs_narc (m := 0) (by decide)
theorem zGr_0 {S : Nat → Nat → Nat → Prop} {a : Nat} : zGr (zE S 0) a (nI 0) := ⟨0, Nat.zero_le a, rfl, trivial, fun j hj => absurd hj (Nat.not_lt_zero j)⟩
section
variable {lr : Int32} {nx ln go ng tr fs T : Nat → Int32} {S : Nat → Nat → Nat → Prop} {x1 : Int32}
theorem zx_tg {post : Int32 → Prop} {l a : Nat} (hT0 : zTg x1 nx ln T) (hl : l < 3) (ha : a < 8) (H : post (T (8 * l + a))) : wpX_target post (lr, nx, ln, go, ng, tr, fs) x1 (nI (8 * l + a)) := by
  unfold wpX_target
  dsimp only
  rw [nI_clamp (by omega)]
  rcases hT0 with ⟨rfl, rfl⟩ | ⟨rfl, rfl⟩
  · exact br_t rfl ⟨vp_in_nI (by omega) (by decide), H⟩
  · exact br_f zb_10 ⟨vp_in_nI (by omega) (by decide), H⟩
theorem zx_ga19 {post : Int32 → Prop} {E : Nat → Nat → Prop} {l a : Nat} (hT : zRp T S) (hl : l < 3) (ha : a < 8) (hg : zG E 8 go) (H : ∀ r, zSg S go l a r → post r) : ∀ d i s, i + d = 8 → zo_I (fun b => S l a b) (fun b j => j < 8 ∧ go b = nI j) i s → wX_groupsAfter_19 post (T (8 * l + a)) lr nx ln go ng tr fs (d + 1) s (nI i) := by
  intro d
  induction d with
  | zero =>
    intro i s hi h
    have e : i = 8 := by omega
    subst e
    exact br_t zk_8t (H s h)
  | succ d ih =>
    intro i s hi h
    refine br_f (zk_8f (by omega)) (zx_inb (by omega) (fun f => nm_e (nm_r (nI_1 i) (ih (i + 1) _ (by omega) (zo_f0 h (fun q => ?_))))) (fun t => ⟨vp_in_nI (by omega) (by decide), ?_⟩))
    · have w := (zRp_b hT hl ha (by omega)).mpr q
      rw [f] at w
      cases w
    · rw [nI_clamp (by omega)]
      obtain ⟨g, hg', eg, _⟩ := hg i (by omega)
      refine nm_e (nm_r (nI_1 i) (ih (i + 1) _ (by omega) (zo_t h ((zRp_b hT hl ha (by omega)).mp t) (fun j => ?_))))
      rw [eg]
      refine (zb_sht (by omega) j).trans ⟨fun q => ⟨by omega, by rw [q]⟩, fun q => ?_⟩
      have w := (nI_eq (by omega) (by have := q.1; omega)).mp q.2
      exact w.symm
theorem zx_ga {post : Int32 → Prop} {E : Nat → Nat → Prop} {l a : Nat} (hT0 : zTg x1 nx ln T) (hT : zRp T S) (hl : l < 3) (ha : a < 8) (hg : zG E 8 go) (H : ∀ r, zSg S go l a r → post r) : wpX_groupsAfter post (lr, nx, ln, go, ng, tr, fs) x1 (nI a) (nI l) := by
  unfold wpX_groupsAfter
  dsimp only
  rw [zi_x]
  exact zx_tg hT0 hl ha ⟨9, zx_ga19 hT hl ha hg H 8 0 0 rfl zo_0⟩
theorem zx_st3 {post : Int32 → Prop} {k a b : Nat} (hT0 : zTg x1 nx ln T) (hT : zRp T S) (ha : a < 8) (hb : b < 8) (hg : zG (zE S k) 8 go) (t : (∀ l, l < 3 → zZ S (zE S k) l a b) → post 1) (f : ¬ (∀ l, l < 3 → zZ S (zE S k) l a b) → post 0) : ∀ d l, l + d = 3 → (∀ l', l' < l → zZ S (zE S k) l' a b) → wX_staysTogether_3 post x1 (nI a) (nI b) lr nx ln go ng tr fs (d + 1) (nI l) := by
  intro d
  induction d with
  | zero =>
    intro l hl h
    have e : l = 3 := by omega
    subst e
    exact br_t zk_3t (t h)
  | succ d ih =>
    intro l hl h
    have h3 : l < 3 := by omega
    exact br_f (zk_3f h3) (zx_ga hT0 hT h3 ha hg (fun r h1 => zx_ga hT0 hT h3 hb hg (fun r' h2 => br_c (fun e => nm_r (nI_1 l) (ih (l + 1) (by omega) (lt_s h ((zSg_e hg h1 h2).mp e)))) (fun ne => f (fun z => ne ((zSg_e hg h1 h2).mpr (z l h3)))))))
theorem zx_sty {post : Int32 → Prop} {k a b : Nat} (hT0 : zTg x1 nx ln T) (hT : zRp T S) (ha : a < 8) (hb : b < 8) (hg : zG (zE S k) 8 go) (t : (∀ l, l < 3 → zZ S (zE S k) l a b) → post 1) (f : ¬ (∀ l, l < 3 → zZ S (zE S k) l a b) → post 0) : wpX_staysTogether post (lr, nx, ln, go, ng, tr, fs) x1 (nI a) (nI b) := by
  unfold wpX_staysTogether
  dsimp only
  exact ⟨4, zx_st3 hT0 hT ha hb hg t f 3 0 rfl (fun l hl => absurd hl (Nat.not_lt_zero l))⟩
theorem zx_pf2 {post : Int32 → Prop} {k a : Nat} (hT0 : zTg x1 nx ln T) (hT : zRp T S) (ha : a < 8) (hg : zG (zE S k) 8 go) (hng : zG (zE S (k + 1)) a ng) (H : ∀ g, g ≤ a → zE S (k + 1) a g → (∀ j, j < g → ¬ zE S (k + 1) a j) → post (nI g)) : ∀ d b, b + d = a → (∀ j, j < b → ¬ zE S (k + 1) a j) → wX_placeFor_2 post x1 (nI a) lr nx ln go ng tr fs (d + 1) (nI b) := by
  intro d
  induction d with
  | zero =>
    intro b hb h
    have e : b = a := by omega
    subst e
    exact br_t (nI_le (Nat.le_refl b) (by omega)) (H b (Nat.le_refl b) (zE_r S (k + 1) b) h)
  | succ d ih =>
    intro b hb h
    have hb8 : b < 8 := by omega
    refine br_f (nI_ge (by omega) (by omega)) ⟨vp_in_nI (by omega) (by decide), vp_in_nI (by omega) (by decide), ?_⟩
    rw [nI_clamp (n := b) (by omega), nI_clamp (n := a) (by omega)]
    refine br_c (fun e => ⟨vp_in_nI (by omega) (by decide), br_c (fun e' => zx_sty hT0 hT ha hb8 hg (fun z => br_f zb_10 (H b (by omega) ?_ h)) (fun z => br_t rfl (nm_r (nI_1 b) (ih (b + 1) (by omega) (lt_s h ?_))))) (fun e' => nm_r (nI_1 b) (ih (b + 1) (by omega) (lt_s h ?_)))⟩) (fun e => nm_r (nI_1 b) (ih (b + 1) (by omega) (lt_s h ?_)))
    · exact zE_s.mpr ⟨zE_y S k ((zG_e hg (Nat.le_refl 8) hb8 ha).mp e), zZ_D.mp z⟩
    · exact fun q => z (zZ_D.mpr (zE_s.mp q).2)
    · intro q
      refine e' ((zG_l hng (by omega) (by omega) (zE_r S (k + 1) b)).mpr (fun j hj w => h j hj (zE_t S (k + 1) q w)))
    · exact fun q => e ((zG_e hg (Nat.le_refl 8) hb8 ha).mpr (zE_y S k (zE_s.mp q).1))
theorem zx_pf {post : Int32 → Prop} {k a : Nat} (hT0 : zTg x1 nx ln T) (hT : zRp T S) (ha : a < 8) (hg : zG (zE S k) 8 go) (hng : zG (zE S (k + 1)) a ng) (H : ∀ g, g ≤ a → zE S (k + 1) a g → (∀ j, j < g → ¬ zE S (k + 1) a j) → post (nI g)) : wpX_placeFor post (lr, nx, ln, go, ng, tr, fs) x1 (nI a) := by
  unfold wpX_placeFor
  dsimp only
  exact ⟨a + 1, zx_pf2 hT0 hT ha hg hng H a 0 (Nat.zero_add a) (fun j hj => absurd hj (Nat.not_lt_zero j))⟩
theorem zx_no5 {post : Int32 → SX → Prop} {k a : Nat} (ha : a < 8) (hk : k ≤ 7) (hg : zG (zE S k) 8 go) (hng : zG (zE S (k + 1)) 8 ng) (H : ∀ x t, zFl x (∃ b, b < 8 ∧ zMp S k (8 * a + b)) → zTm S k (8 * a + 8) t → post x (lr, nx, ln, go, ng, t, fs)) : ∀ d i x t, i + d = 8 → zFl x (∃ b, b < i ∧ zMp S k (8 * a + b)) → zTm S k (8 * a + i) t → wX_note_5 post (nI a) (nI (k + 1)) lr (d + 1) x (nI i) nx ln go ng t fs := by
  intro d
  induction d with
  | zero =>
    intro i x t hi hf ht
    have e : i = 8 := by omega
    subst e
    exact br_t zk_8t ⟨zFl_nar hf, H x t hf ht⟩
  | succ d ih =>
    intro i x t hi hf ht
    have hi8 : i < 8 := by omega
    have va : vp_in (nI a) 8 := vp_in_nI (by omega) (by decide)
    have vi : vp_in (nI i) 8 := vp_in_nI (by omega) (by decide)
    have em : zMp S k (8 * a + i) ↔ (zE S k a i ∧ ¬ zE S (k + 1) a i) := by
      unfold zMp
      rw [show (8 * a + i) / 8 = a by omega, show (8 * a + i) % 8 = i by omega]
    have nf : ¬ zMp S k (8 * a + i) → wX_note_5 post (nI a) (nI (k + 1)) lr (d + 1) x (nI (i + 1)) nx ln go ng t fs := fun m => by
      refine ih (i + 1) x t (by omega) (zFl_c hf ⟨fun ⟨b, hb, q⟩ => ⟨b, by omega, q⟩, fun ⟨b, hb, q⟩ => ⟨b, ?_, q⟩⟩) (zTm_f ht m)
      rcases Nat.lt_or_ge b i with g | g
      · exact g
      · have e : b = i := by omega
        subst e
        exact absurd q m
    refine br_f (zk_8f hi8) ⟨va, vi, ?_⟩
    rw [zi_x, nI_clamp (n := a) (by omega), nI_clamp (n := i) (by omega), nI_clamp (n := 8 * a + i) (by omega), zs_narb (by omega)]
    refine br_c (fun e => ⟨va, vi, br_c (fun e' => nm_r (nI_1 i) (nf ?_)) (fun e' => ⟨vp_in_nI (by omega) (by decide), nm_e (nm_r (nI_1 i) (ih (i + 1) 1 _ (by omega) (Or.inl ⟨rfl, i, Nat.lt_succ_self i, ?_⟩) (zTm_t ht ?_)))⟩)⟩) (fun e => nm_r (nI_1 i) (nf ?_))
    · exact fun m => (em.mp m).2 ((zG_e hng (Nat.le_refl 8) ha hi8).mp e')
    · exact em.mpr ⟨(zG_e hg (Nat.le_refl 8) ha hi8).mp e, fun q => e' ((zG_e hng (Nat.le_refl 8) ha hi8).mpr q)⟩
    · exact em.mpr ⟨(zG_e hg (Nat.le_refl 8) ha hi8).mp e, fun q => e' ((zG_e hng (Nat.le_refl 8) ha hi8).mpr q)⟩
    · exact fun m => e ((zG_e hg (Nat.le_refl 8) ha hi8).mpr (em.mp m).1)
theorem zx_no {post : Int32 → SX → Prop} {k a : Nat} (ha : a < 8) (hk : k ≤ 7) (hg : zG (zE S k) 8 go) (hng : zG (zE S (k + 1)) 8 ng) (ht : zTm S k (8 * a) tr) (H : ∀ x t, zFl x (∃ b, b < 8 ∧ zMp S k (8 * a + b)) → zTm S k (8 * a + 8) t → post x (lr, nx, ln, go, ng, t, fs)) : wpX_note post (lr, nx, ln, go, ng, tr, fs) (nI a) (nI (k + 1)) := by
  unfold wpX_note
  dsimp only
  exact ⟨9, zx_no5 ha hk hg hng H 8 0 0 tr rfl (Or.inr ⟨rfl, fun ⟨b, hb, _⟩ => absurd hb (Nat.not_lt_zero b)⟩) ht⟩
theorem zx_di123 {post : SX → Prop} {J : Int32 → Int32 → Int32 → (Nat → Int32) → (Nat → Int32) → (Nat → Int32) → (Nat → Int32) → (Nat → Int32) → (Nat → Int32) → Prop} {x2 x3 : Int32} {E : Nat → Nat → Prop} (hng : zG E 8 ng) (H : ∀ gm, zG E 8 gm → ((x2 = 0 → J x2 (x3 + 1) lr nx ln gm ng tr fs) ∧ (¬ x2 = 0 → J x2 (x3 + 1) x3 nx ln gm ng tr fs))) : ∀ d i gm, i + d = 8 → (∀ a, a < i → gm a = ng a) → wX_divide_123 post J x1 x2 x3 lr (d + 1) (nI i) nx ln gm ng tr fs := by
  intro d
  induction d with
  | zero =>
    intro i gm hi h
    have e : i = 8 := by omega
    subst e
    have q : zG E 8 gm := fun a ha => by
      rw [h a ha]
      exact hng a ha
    exact br_t zk_8t ⟨fun e => nm_e ((H gm q).1 e), fun e => nm_e ((H gm q).2 e)⟩
  | succ d ih =>
    intro i gm hi h
    obtain ⟨g, hg', eg, _⟩ := hng i (by omega)
    refine br_f (zk_8f (by omega)) ⟨vp_in_nI (by omega) (by decide), vp_in_nI (by omega) (by decide), ?_⟩
    rw [nI_clamp (by omega)]
    refine nm_e (nm_r (nI_1 i) (ih (i + 1) _ (by omega) (zu_lt (P := fun a y => y = ng a) h ?_)))
    show vp_nar .byte (ng i) = ng i
    rw [eg, zs_narc (by omega)]
theorem zx_di97 {post : SX → Prop} {J : Int32 → Int32 → Int32 → (Nat → Int32) → (Nat → Int32) → (Nat → Int32) → (Nat → Int32) → (Nat → Int32) → (Nat → Int32) → Prop} {k : Nat} (hk : k ≤ 7) (hg : zG (zE S k) 8 go) (hng : zG (zE S (k + 1)) 8 ng) (H : ∀ x t, zFl x (zM S k 64) → zTm S k 64 t → ∃ n, wX_divide_123 post J x1 x (nI (k + 1)) lr n 0 nx ln go ng t fs) : ∀ d i x t, i + d = 8 → zFl x (zM S k (8 * i)) → zTm S k (8 * i) t → wX_divide_97 post J x1 (nI (k + 1)) (d + 1) x (nI i) lr nx ln go ng t fs := by
  intro d
  induction d with
  | zero =>
    intro i x t hi hf ht
    have e : i = 8 := by omega
    subst e
    exact br_t zk_8t (H x t hf ht)
  | succ d ih =>
    intro i x t hi hf ht
    refine br_f (zk_8f (by omega)) (zx_no (by omega) hk hg hng ht (fun y t' hy ht' => ?_))
    exact nm_e (nm_r (nI_1 i) (ih (i + 1) _ t' (by omega) (zFl_c (zFl_or hf hy) zM_blk) ht'))
theorem zx_di66 {post : SX → Prop} {J : Int32 → Int32 → Int32 → (Nat → Int32) → (Nat → Int32) → (Nat → Int32) → (Nat → Int32) → (Nat → Int32) → (Nat → Int32) → Prop} {x2 x3 : Int32} {k : Nat} (hT0 : zTg x1 nx ln T) (hT : zRp T S) (hg : zG (zE S k) 8 go) (H : ∀ nm, zG (zE S (k + 1)) 8 nm → ∃ n, wX_divide_97 post J x1 x3 n x2 0 lr nx ln go nm tr fs) : ∀ d i nm, i + d = 8 → zG (zE S (k + 1)) i nm → wX_divide_66 post J x1 x2 x3 lr (d + 1) (nI i) nx ln go nm tr fs := by
  intro d
  induction d with
  | zero =>
    intro i nm hi h
    have e : i = 8 := by omega
    subst e
    exact br_t zk_8t (H nm h)
  | succ d ih =>
    intro i nm hi h
    refine br_f (zk_8f (by omega)) (zx_pf hT0 hT (by omega) hg h (fun g hgi e m => ?_))
    rw [nI_clamp (by omega), zs_narb (by omega)]
    exact ⟨vp_in_nI (by omega) (by decide), nm_e (nm_r (nI_1 i) (ih (i + 1) _ (by omega) (zu_lt (P := fun a y => zGr (zE S (k + 1)) a y) h ⟨g, hgi, rfl, e, m⟩)))⟩
theorem zk_8n {k : Nat} (h : k ≤ 7) : ¬ (8 : Int32) < nI (k + 1) := nI_nlt (a := 8) (by omega) (by decide)
theorem zx_di51 {post : SX → Prop} {R : Nat} (hR : zR S R) (hT0 : zTg x1 nx ln T) (hT : zRp T S) (H : ∀ gm nm t, zG (zE S (R + 1)) 8 gm → zTs S (R + 1) t → post (nI R, nx, ln, gm, nm, t, fs)) : ∀ d k gm nm t, k + d = R → zG (zE S k) 8 gm → zTs S k t → wX_divide_51 post x1 (d + 2) 1 (nI (k + 1)) (nI k) nx ln gm nm t fs := by
  have h7 := hR.1
  intro d
  induction d with
  | zero =>
    intro k gm nm t hk hg ht
    have e : k = R := by omega
    subst e
    refine br_f (zk_8n h7) (br_f zb_10 ⟨9, zx_di66 hT0 hT hg (fun nm' hnm => ⟨9, zx_di97 h7 hg hnm (fun x t' hx ht' => ⟨9, zx_di123 hnm (fun gm' hg' => ?_) 8 0 gm rfl (fun a ha => absurd ha (Nat.not_lt_zero a))⟩) 8 0 0 t rfl (Or.inr ⟨rfl, zM_0⟩) (zTm_0 ht)⟩) 8 0 nm rfl (fun a ha => absurd ha (Nat.not_lt_zero a))⟩)
    rcases hx with ⟨rfl, m⟩ | ⟨rfl, m⟩
    · exact absurd m hR.2.1
    · have P := H gm' nm' t' hg' (zTm_e ht')
      exact br_t rfl (br_c (fun _ => P) (fun _ => br_t rfl P))
  | succ d ih =>
    intro k gm nm t hk hg ht
    have k7 : k ≤ 7 := by omega
    refine br_f (zk_8n k7) (br_f zb_10 ⟨9, zx_di66 hT0 hT hg (fun nm' hnm => ⟨9, zx_di97 k7 hg hnm (fun x t' hx ht' => ⟨9, zx_di123 hnm (fun gm' hg' => ?_) 8 0 gm rfl (fun a ha => absurd ha (Nat.not_lt_zero a))⟩) 8 0 0 t rfl (Or.inr ⟨rfl, zM_0⟩) (zTm_0 ht)⟩) 8 0 nm rfl (fun a ha => absurd ha (Nat.not_lt_zero a))⟩)
    rcases hx with ⟨rfl, m⟩ | ⟨rfl, m⟩
    · refine br_f zb_10 ?_
      rw [nI_1 (k + 1)]
      exact ih (k + 1) gm' nm' t' (by omega) hg' (zTm_e ht')
    · exact absurd (hR.2.2 k (by omega)) m
theorem zx_di23 {post : SX → Prop} (H : ∀ gm, (∀ a, a < 8 → gm a = nI 0) → ∃ n, wX_divide_51 post x1 n 1 1 0 nx ln gm ng tr fs) : ∀ d i gm, i + d = 8 → (∀ a, a < i → gm a = nI 0) → wX_divide_23 post x1 lr (d + 1) (nI i) nx ln gm ng tr fs := by
  intro d
  induction d with
  | zero =>
    intro i gm hi h
    have e : i = 8 := by omega
    subst e
    exact br_t zk_8t (H gm h)
  | succ d ih =>
    intro i gm hi h
    refine br_f (zk_8f (by omega)) ⟨vp_in_nI (by omega) (by decide), ?_⟩
    rw [nI_clamp (by omega), zs_z]
    exact nm_e (nm_r (nI_1 i) (ih (i + 1) _ (by omega) (zu_lt (P := fun a y => y = nI 0) h rfl)))
theorem zx_di2 {post : SX → Prop} (H : ∀ t, (∀ c, c < 64 → t c = -1) → ∃ n, wX_divide_23 post x1 lr n 0 nx ln go ng t fs) : ∀ d i t, i + d = 64 → (∀ c, c < i → t c = -1) → wX_divide_2 post x1 lr (d + 1) (nI i) nx ln go ng t fs := by
  intro d
  induction d with
  | zero =>
    intro i t hi h
    have e : i = 64 := by omega
    subst e
    exact br_t zk_64t (H t h)
  | succ d ih =>
    intro i t hi h
    refine br_f (zk_64f (by omega)) ⟨vp_in_nI (by omega) (by decide), ?_⟩
    rw [nI_clamp (by omega), zs_m1]
    exact nm_e (nm_r (nI_1 i) (ih (i + 1) _ (by omega) (zu_lt (P := fun a y => y = -1) h rfl)))
theorem zx_div {post : SX → Prop} {R : Nat} (hR : zR S R) (hT0 : zTg x1 nx ln T) (hT : zRp T S) (H : ∀ gm nm t, zG (zE S (R + 1)) 8 gm → zTs S (R + 1) t → post (nI R, nx, ln, gm, nm, t, fs)) : wpX_divide post (lr, nx, ln, go, ng, tr, fs) x1 := by
  unfold wpX_divide
  dsimp only
  refine ⟨65, zx_di2 (fun t ht => ⟨9, zx_di23 (fun gm hg => ?_) 8 0 go rfl (fun a ha => absurd ha (Nat.not_lt_zero a))⟩) 64 0 tr rfl (fun a ha => absurd ha (Nat.not_lt_zero a))⟩
  refine ⟨R + 2, zx_di51 hR hT0 hT H R 0 gm ng t (Nat.zero_add R) (fun a ha => ?_) (fun c hc => Or.inl ⟨trivial, ht c hc⟩)⟩
  rw [hg a ha]
  exact zGr_0
end
end
section
/-! the reference's rounds -/
def zLo (S : Nat → Nat → Nat → Prop) (r a b c : Nat) : Prop := S (c / 8) a (c % 8) ∧ ∀ d, d < 8 → S (c / 8) b d → ¬ zE S r (c % 8) d
theorem zLo_D {S : Nat → Nat → Nat → Prop} {r a b : Nat} : (∃ c, c < 24 ∧ zLo S r a b c) ↔ ¬ zD S (zE S r) a b := by
  constructor
  · rintro ⟨c, hc, s, h⟩ z
    obtain ⟨d, hd, s', e⟩ := z (c / 8) (c % 8) (by omega) (by omega) s
    exact h d hd s' e
  · intro h
    refine Classical.byContradiction fun n => h (fun l c hl hc s => Classical.byContradiction fun m => n ⟨8 * l + c, by omega, ?_⟩)
    unfold zLo
    rw [show (8 * l + c) / 8 = l by omega, show (8 * l + c) % 8 = c by omega]
    exact ⟨s, fun d hd s' e => m ⟨d, hd, s', e⟩⟩
theorem zk_30f {k : Nat} (h : k ≤ 7) : ¬ (30 : Int32) ≤ nI (k + 1) := nI_ge (b := 30) (by omega) (by decide)
section
variable {nx fa to ke af : Nat → Int32} {S : Nat → Nat → Nat → Prop}
theorem zy_lo49 {post : Int32 → Prop} {J : Int32 → Int32 → Prop} {x1 set x3 x4 z0 : Int32} {P Q : Prop} {i : Nat} (hx : zFl x4 P) (hz : zFl z0 Q) (hi : i < 32) (H : ∀ x, zFl x (P ∧ (bt set i = true → Q)) → J x (nI (i + 1))) : wY_lonely_49 post J x1 set x3 x4 (nI i) z0 nx fa to ke af := by
  unfold wY_lonely_49
  refine zFl_br hx (fun p => nm_r (nI_1 i) (H 0 (Or.inr ⟨rfl, fun q => p q.1⟩))) (fun p => zb_br0 hi (fun f => nm_r (nI_1 i) (H 1 (Or.inl ⟨rfl, p, fun t => ?_⟩))) (fun t => zFl_br hz (fun q => nm_r (nI_1 i) (H 0 (Or.inr ⟨rfl, fun w => q (w.2 t)⟩))) (fun q => nm_r (nI_1 i) (H 1 (Or.inl ⟨rfl, p, fun _ => q⟩)))))
  rw [f] at t
  cases t
theorem zy_lo6 {post : Int32 → Prop} {r c : Nat} {set : Int32} (hr : r ≤ 100) (hc : c < 8) (ht : ∀ d, d < 8 → (zTv S r c d (to (8 * c + d)) ∨ zTv S (r + 1) c d (to (8 * c + d)))) (H : ∀ x, zFl x (∀ d, d < 8 → bt set d = true → ¬ zE S r c d) → post x) : ∀ n i x, i + n = 8 → zFl x (∀ d, d < i → bt set d = true → ¬ zE S r c d) → wY_lonely_6 post (nI c) set (nI (r + 1)) nx fa to ke af (n + 1) x (nI i) := by
  intro n
  induction n with
  | zero =>
    intro i x hi hx
    have e : i = 8 := by omega
    subst e
    exact br_t zk_8t ⟨zFl_nar hx, H x hx⟩
  | succ n ih =>
    intro i x hi hx
    have q := zTv_a (ht i (by omega)) hr
    have K : ∀ z0, zFl z0 (¬ zE S r c i) → wY_lonely_49 post (wY_lonely_6 post (nI c) set (nI (r + 1)) nx fa to ke af (n + 1)) (nI c) set (nI (r + 1)) x (nI i) z0 nx fa to ke af := fun z0 hz =>
      zy_lo49 hx hz (by omega) (fun x' hx' => ih (i + 1) x' (by omega) (zFl_c hx' ⟨fun w => lt_s w.1 w.2, fun w => ⟨fun d hd => w d (by omega), w i (by omega)⟩⟩))
    refine br_f (zk_8f (by omega)) ?_
    rw [zi_y, nI_clamp (by omega)]
    refine ⟨vp_in_nI (by omega) (by decide), br_c (fun z => ?_) (fun z => ⟨vp_in_nI (by omega) (by decide), br_c (fun z' => ?_) (fun z' => ?_)⟩)⟩
    · exact K 0 (Or.inr ⟨rfl, fun w => w (q.mp (Or.inl z))⟩)
    · exact K 0 (Or.inr ⟨rfl, fun w => w (q.mp (Or.inr z'))⟩)
    · exact K 1 (Or.inl ⟨rfl, fun w => (q.mpr w).elim z z'⟩)
theorem zy_lo {post : Int32 → Prop} {r c : Nat} {set : Int32} (hr : r ≤ 100) (hc : c < 8) (ht : ∀ d, d < 8 → (zTv S r c d (to (8 * c + d)) ∨ zTv S (r + 1) c d (to (8 * c + d)))) (H : ∀ x, zFl x (∀ d, d < 8 → bt set d = true → ¬ zE S r c d) → post x) : wpY_lonely post (nx, fa, to, ke, af) (nI c) set (nI (r + 1)) := by
  unfold wpY_lonely
  dsimp only
  exact ⟨9, zy_lo6 hr hc ht H 8 0 1 rfl (Or.inl ⟨rfl, fun d hd => absurd hd (Nat.not_lt_zero d)⟩)⟩
theorem zy_df6 {post : Int32 → Prop} {r a b : Nat} (hr : r ≤ 100) (ha : a < 8) (hb : b < 8) (hF : zRp fa S) (ht : ∀ c, c < 64 → (zTv S r (c / 8) (c % 8) (to c) ∨ zTv S (r + 1) (c / 8) (c % 8) (to c))) (H : ∀ x, zFl x (¬ zD S (zE S r) a b) → post x) : ∀ n i x, i + n = 24 → zFl x (∃ c, c < i ∧ zLo S r a b c) → wY_differs_6 post (nI a) (nI b) (nI (r + 1)) nx fa to ke af (n + 1) x (nI i) := by
  intro n
  induction n with
  | zero =>
    intro i x hi hx
    have e : i = 24 := by omega
    subst e
    exact br_t zk_24t ⟨zFl_nar hx, H x (zFl_c hx zLo_D)⟩
  | succ n ih =>
    intro i x hi hx
    have hl : i / 8 < 3 := by omega
    have hm : i % 8 < 8 := by omega
    have ht' : ∀ d, d < 8 → (zTv S r (i % 8) d (to (8 * (i % 8) + d)) ∨ zTv S (r + 1) (i % 8) d (to (8 * (i % 8) + d))) := fun d hd => by
      have w := ht (8 * (i % 8) + d) (by omega)
      rw [show (8 * (i % 8) + d) / 8 = i % 8 by omega, show (8 * (i % 8) + d) % 8 = d by omega] at w
      exact w
    have K0 : ¬ (∃ c, c < i ∧ zLo S r a b c) → ¬ zLo S r a b i → wY_differs_6 post (nI a) (nI b) (nI (r + 1)) nx fa to ke af (n + 1) 0 (nI (i + 1)) := fun m m' =>
      ih (i + 1) 0 (by omega) (Or.inr ⟨rfl, fun ⟨c, hc, w⟩ => by
        rcases Nat.lt_or_ge c i with g | g
        · exact m ⟨c, g, w⟩
        · have e : c = i := by omega
          subst e
          exact m' w⟩)
    refine br_f (zk_24f (by omega)) ⟨zi_80, nm_r (zi_d (by omega)) ⟨zi_80, nm_r (zi_m (by omega)) ?_⟩⟩
    rw [zi_y, zi_y, nI_clamp (n := 8 * (i / 8) + a) (by omega), nI_clamp (n := 8 * (i / 8) + b) (by omega)]
    refine zFl_br hx (fun m => ⟨vp_in_nI (by omega) (by decide), zb_br1 (by omega) (fun t => ⟨vp_in_nI (by omega) (by decide), zy_lo hr hm ht' (fun y hy => zFl_br hy (fun q => nm_r (nI_1 i) (K0 m (fun w => ?_))) (fun q => nm_r (nI_1 i) (ih (i + 1) 1 (by omega) (Or.inl ⟨rfl, i, Nat.lt_succ_self i, ?_⟩))))⟩) (fun f => nm_r (nI_1 i) (K0 m (fun w => ?_)))⟩) (fun m => nm_r (nI_1 i) (ih (i + 1) 1 (by omega) (Or.inl ⟨rfl, ?_⟩)))
    · exact q (fun d hd s => w.2 d hd ((zRp_b hF hl hb hd).mp s))
    · exact ⟨(zRp_b hF hl ha hm).mp t, fun d hd s => q d hd ((zRp_b hF hl hb hd).mpr s)⟩
    · have z := (zRp_b hF hl ha hm).mpr w.1
      rw [f] at z
      cases z
    · obtain ⟨c, hc, w⟩ := m
      exact ⟨c, by omega, w⟩
theorem zy_df {post : Int32 → Prop} {r a b : Nat} (hr : r ≤ 100) (ha : a < 8) (hb : b < 8) (hF : zRp fa S) (ht : ∀ c, c < 64 → (zTv S r (c / 8) (c % 8) (to c) ∨ zTv S (r + 1) (c / 8) (c % 8) (to c))) (H : ∀ x, zFl x (¬ zD S (zE S r) a b) → post x) : wpY_differs post (nx, fa, to, ke, af) (nI a) (nI b) (nI (r + 1)) := by
  unfold wpY_differs
  dsimp only
  exact ⟨25, zy_df6 hr ha hb hF ht H 24 0 0 rfl (Or.inr ⟨rfl, fun ⟨c, hc, _⟩ => absurd hc (Nat.not_lt_zero c)⟩)⟩
theorem zy_te91 {post : SY → Prop} {J25 J39 : Int32 → Int32 → (Nat → Int32) → (Nat → Int32) → (Nat → Int32) → (Nat → Int32) → (Nat → Int32) → Prop} {r c : Nat} {x1 z0 : Int32} (hc : c < 64) (hx : zFl x1 (zM S r c)) (hz : zFl z0 (zMp S r c)) (ht : zTm S r c to) (H : ∀ y t, zFl y (zM S r (c + 1)) → zTm S r (c + 1) t → J39 y (nI (c + 1)) nx fa t ke af) : wY_tell_91 post J25 J39 x1 (nI (r + 1)) (nI c) z0 nx fa to ke af := by
  unfold wY_tell_91 wY_tell_113
  rw [nI_clamp (by omega)]
  have v : vp_in (nI c) 64 := vp_in_nI (by omega) (by decide)
  rcases hz with ⟨rfl, m⟩ | ⟨rfl, m⟩
  · have q := H 1 _ (Or.inl ⟨rfl, zM_t m⟩) (zTm_t ht m)
    exact br_f zb_10 ⟨v, nm_e (br_c (fun _ => br_f zb_10 (nm_r (nI_1 c) q)) (fun _ => nm_r (nI_1 c) q))⟩
  · have q := zTm_f ht m
    refine br_t rfl ⟨v, v, nm_r zu_id ?_⟩
    exact zFl_br hx (fun p => br_t rfl (nm_r (nI_1 c) (H 0 to (Or.inr ⟨rfl, fun w => p ((zM_f m).mpr w)⟩) q))) (fun p => nm_r (nI_1 c) (H 1 to (Or.inl ⟨rfl, zM_s p⟩) q))
theorem zy_te39 {post : SY → Prop} {J25 : Int32 → Int32 → (Nat → Int32) → (Nat → Int32) → (Nat → Int32) → (Nat → Int32) → (Nat → Int32) → Prop} {r : Nat} (hr : r ≤ 100) (hF : zRp fa S) (H : ∀ x t, zFl x (zM S r 64) → zTm S r 64 t → J25 x (nI (r + 1) + 1) nx fa t ke af) : ∀ n c x t, c + n = 64 → zFl x (zM S r c) → zTm S r c t → wY_tell_39 post J25 (nI (r + 1)) (n + 1) x (nI c) nx fa t ke af := by
  intro n
  induction n with
  | zero =>
    intro c x t hc hx ht
    have e : c = 64 := by omega
    subst e
    exact br_t zk_64t (nm_e (H x t hx ht))
  | succ n ih =>
    intro c x t hc hx ht
    have hc64 : c < 64 := by omega
    have h1 : c / 8 < 8 := by omega
    have h2 : c % 8 < 8 := by omega
    have hcell := (ht c hc64).2 (Nat.le_refl c)
    have ht' : ∀ c, c < 64 → (zTv S r (c / 8) (c % 8) (t c) ∨ zTv S (r + 1) (c / 8) (c % 8) (t c)) := fun c' hc' => by
      rcases Nat.lt_or_ge c' c with g | g
      · exact Or.inr ((ht c' hc').1 g)
      · exact Or.inl ((ht c' hc').2 g)
    have K : ∀ z0, zFl z0 (zMp S r c) → wY_tell_91 post J25 (wY_tell_39 post J25 (nI (r + 1)) (n + 1)) x (nI (r + 1)) (nI c) z0 nx fa t ke af := fun z0 hz =>
      zy_te91 hc64 hx hz ht (fun y t' hy ht' => ih (c + 1) y t' (by omega) hy ht')
    refine br_f (zk_64f hc64) ⟨vp_in_nI (by omega) (by decide), ?_⟩
    rw [nI_clamp (by omega), zi_m (by omega), zi_d (by omega)]
    refine br_c (fun z => K 0 (Or.inr ⟨rfl, fun m => (zTv_p hcell hr).mp z m.1⟩)) (fun z => ⟨zi_80, zi_80, ?_⟩)
    have e : zE S r (c / 8) (c % 8) := Classical.byContradiction fun w => z ((zTv_p hcell hr).mpr w)
    refine zy_df hr h1 h2 hF ht' (fun y hy => zFl_br hy (fun q => ⟨zi_80, zi_80, zy_df hr h2 h1 hF ht' (fun y' hy' => zFl_br hy' (fun q' => K 0 (Or.inr ⟨rfl, fun m => ?_⟩)) (fun q' => K 1 (Or.inl ⟨rfl, e, fun w => q' (zE_s.mp w).2.2⟩)))⟩) (fun q => K 1 (Or.inl ⟨rfl, e, fun w => q (zE_s.mp w).2.1⟩)))
    exact m.2 (zE_s.mpr ⟨e, Classical.byContradiction q, Classical.byContradiction q'⟩)
theorem zy_te25 {post : SY → Prop} {R : Nat} (hR : zR S R) (hF : zRp fa S) (H : ∀ t, zTs S (R + 1) t → post (nx, fa, t, ke, af)) : ∀ d k t, k + d = R → zTs S k t → wY_tell_25 post (d + 2) 1 (nI (k + 1)) nx fa t ke af := by
  have h7 := hR.1
  intro d
  induction d with
  | zero =>
    intro k t hk ht
    have e : k = R := by omega
    subst e
    refine br_f (zk_30f h7) (br_f zb_10 ⟨65, zy_te39 (by omega) hF (fun x t' hx ht' => ?_) 64 0 0 t rfl (Or.inr ⟨rfl, zM_0⟩) (zTm_0 ht)⟩)
    rcases hx with ⟨rfl, m⟩ | ⟨rfl, m⟩
    · exact absurd m hR.2.1
    · have P := H t' (zTm_e ht')
      exact br_c (fun _ => P) (fun _ => br_t rfl P)
  | succ d ih =>
    intro k t hk ht
    refine br_f (zk_30f (by omega)) (br_f zb_10 ⟨65, zy_te39 (by omega) hF (fun x t' hx ht' => ?_) 64 0 0 t rfl (Or.inr ⟨rfl, zM_0⟩) (zTm_0 ht)⟩)
    rcases hx with ⟨rfl, m⟩ | ⟨rfl, m⟩
    · rw [nI_1 (k + 1)]
      exact ih (k + 1) t' (by omega) (zTm_e ht')
    · exact absurd (hR.2.2 k (by omega)) m
theorem zy_te2 {post : SY → Prop} (H : ∀ t, (∀ c, c < 64 → t c = -1) → ∃ n, wY_tell_25 post n 1 1 nx fa t ke af) : ∀ d i t, i + d = 64 → (∀ c, c < i → t c = -1) → wY_tell_2 post (d + 1) (nI i) nx fa t ke af := by
  intro d
  induction d with
  | zero =>
    intro i t hi h
    have e : i = 64 := by omega
    subst e
    exact br_t zk_64t (H t h)
  | succ d ih =>
    intro i t hi h
    refine br_f (zk_64f (by omega)) ⟨vp_in_nI (by omega) (by decide), ?_⟩
    rw [nI_clamp (by omega)]
    exact nm_e (nm_r (nI_1 i) (ih (i + 1) _ (by omega) (zu_lt (P := fun a y => y = -1) h rfl)))
theorem zy_te {post : SY → Prop} {R : Nat} (hR : zR S R) (hF : zRp fa S) (H : ∀ t, zTs S (R + 1) t → post (nx, fa, t, ke, af)) : wpY_tell post (nx, fa, to, ke, af) := by
  unfold wpY_tell
  dsimp only
  refine ⟨65, zy_te2 (fun t ht => ?_) 64 0 to rfl (fun a ha => absurd ha (Nat.not_lt_zero a))⟩
  exact ⟨R + 2, zy_te25 hR hF H R 0 t (Nat.zero_add R) (fun c hc => Or.inl ⟨trivial, ht c hc⟩)⟩
theorem zy_ts {post : SY → Prop} {R : Nat} (hn : zn_Ok nx) (hR : zR (zS nx) R) (H : ∀ fm t, zTs (zS nx) (R + 1) t → post (nx, fm, t, ke, af)) : wpY_tellSteps post (nx, fa, to, ke, af) := by
  unfold wpY_tellSteps
  dsimp only
  exact zy_us hn (fun fm hF => zy_te hR hF (fun t ht => H fm t ht))
theorem zy_tl {post : SY → Prop} {R : Nat} (hn : zn_Ok nx) (hR : zR (zL nx) R) (H : ∀ fm t, zTs (zL nx) (R + 1) t → post (nx, fm, t, ke, af)) : wpY_tellLongSteps post (nx, fa, to, ke, af) := by
  unfold wpY_tellLongSteps
  dsimp only
  exact zy_ul hn (fun fm hF => zy_te hR hF (fun t ht => H fm t ht))
end
end
section
/-! the answers about groups -/
theorem zTs_c {S : Nat → Nat → Nat → Prop} {r a b : Nat} {t : Nat → Int32} (h : zTs S r t) (ha : a < 8) (hb : b < 8) : zTv S r a b (t (8 * a + b)) := by
  have w := h (8 * a + b) (by omega)
  rw [show (8 * a + b) / 8 = a by omega, show (8 * a + b) % 8 = b by omega] at w
  exact w
theorem zo_own {C : Nat → Prop} {r : Int32} (h : zo_I C (fun b j => j = b) 8 r) : zs_Is r C := fun j => (h j).trans ⟨fun ⟨b, hb, c, e⟩ => by
  subst e
  exact ⟨hb, c⟩, fun ⟨hj, c⟩ => ⟨j, hj, c, rfl⟩⟩
theorem zcn_t {P : Nat → Prop} {i : Nat} (h : P i) : nI (cn P i) + 1 = nI (cn P (i + 1)) := by
  rw [nI_1]
  show nI (cn P i + 1) = nI (cn P i + b01 (P i))
  rw [b01_t h]
theorem zcn_f {P : Nat → Prop} {i : Nat} (h : ¬ P i) : cn P i = cn P (i + 1) := by
  show cn P i = cn P i + b01 (P i)
  rw [b01_f h, Nat.add_zero]
theorem zcn_0 {P : Nat → Prop} {i : Nat} (h : ¬ P i) : nI (cn P i) + 0 = nI (cn P (i + 1)) := by
  rw [← zcn_f h]
  exact nI_add (cn P i) 0
section
variable {lr : Int32} {nx ln go ng tr fs fa to ke af T : Nat → Int32} {S : Nat → Nat → Nat → Prop} {R : Nat}
/-! component -/
theorem zx_al {post : Int32 → SX → Prop} {a b : Nat} (hn : zn_Ok nx) (hR : zR (zS nx) R) (ha : a < 8) (hb : b < 8) (H : ∀ gm nm t x, zFl x (zE (zS nx) (R + 1) a b) → post x (nI R, nx, ln, gm, nm, t, fs)) : wpX_alike post (lr, nx, ln, go, ng, tr, fs) (nI a) (nI b) := by
  unfold wpX_alike
  dsimp only
  refine zx_st1 ha (br_f zb_10 (zx_st1 hb (br_f zb_10 (zx_div hR (Or.inl ⟨rfl, rfl⟩) (zRp_own hn) (fun gm nm t hg ht => ?_)))))
  dsimp only
  rw [nI_clamp (n := a) (by omega), nI_clamp (n := b) (by omega)]
  exact ⟨vp_in_nI (by omega) (by decide), vp_in_nI (by omega) (by decide), br_c (fun e => H gm nm t 1 (Or.inl ⟨rfl, (zG_e hg (Nat.le_refl 8) ha hb).mp e⟩)) (fun e => H gm nm t 0 (Or.inr ⟨rfl, fun w => e ((zG_e hg (Nat.le_refl 8) ha hb).mpr w)⟩))⟩
theorem zx_lal {post : Int32 → SX → Prop} {a b : Nat} (hn : zn_Ok nx) (hR : zR (zL nx) R) (ha : a < 8) (hb : b < 8) (H : ∀ lm gm nm t x, zFl x (zE (zL nx) (R + 1) a b) → post x (nI R, nx, lm, gm, nm, t, fs)) : wpX_looselyAlike post (lr, nx, ln, go, ng, tr, fs) (nI a) (nI b) := by
  unfold wpX_looselyAlike
  dsimp only
  refine zx_st1 ha (br_f zb_10 (zx_st1 hb (br_f zb_10 (zx_len hn (fun lm hl => ?_)))))
  dsimp only
  refine zx_div hR (Or.inr ⟨rfl, rfl⟩) hl (fun gm nm t hg ht => ?_)
  dsimp only
  rw [nI_clamp (n := a) (by omega), nI_clamp (n := b) (by omega)]
  exact ⟨vp_in_nI (by omega) (by decide), vp_in_nI (by omega) (by decide), br_c (fun e => H lm gm nm t 1 (Or.inl ⟨rfl, (zG_e hg (Nat.le_refl 8) ha hb).mp e⟩)) (fun e => H lm gm nm t 0 (Or.inr ⟨rfl, fun w => e ((zG_e hg (Nat.le_refl 8) ha hb).mpr w)⟩))⟩
theorem zx_gr18 {post : Int32 → SX → Prop} {r a : Nat} (ha : a < 8) (hg : zG (zE S r) 8 go) (H : ∀ x, zs_Is x (zE S r a) → post x (lr, nx, ln, go, ng, tr, fs)) : ∀ d i s, i + d = 8 → zo_I (zE S r a) (fun b j => j = b) i s → wX_group_18 post (nI a) lr nx ln go ng tr fs (d + 1) s (nI i) := by
  intro d
  induction d with
  | zero =>
    intro i s hi h
    have e : i = 8 := by omega
    subst e
    exact br_t zk_8t (H s (zo_own h))
  | succ d ih =>
    intro i s hi h
    have hi8 : i < 8 := by omega
    refine br_f (zk_8f hi8) ⟨vp_in_nI (by omega) (by decide), vp_in_nI (by omega) (by decide), ?_⟩
    rw [nI_clamp (n := i) (by omega), nI_clamp (n := a) (by omega)]
    exact br_c (fun e => nm_e (nm_r (nI_1 i) (ih (i + 1) _ (by omega) (zo_t h (zE_y S r ((zG_e hg (Nat.le_refl 8) hi8 ha).mp e)) (fun j => zb_sht (by omega) j))))) (fun e => nm_e (nm_r (nI_1 i) (ih (i + 1) _ (by omega) (zo_f0 h (fun w => e ((zG_e hg (Nat.le_refl 8) hi8 ha).mpr (zE_y S r w)))))))
theorem zx_gr {post : Int32 → SX → Prop} {a : Nat} (hn : zn_Ok nx) (hR : zR (zS nx) R) (ha : a < 8) (H : ∀ gm nm t x, zs_Is x (zE (zS nx) (R + 1) a) → post x (nI R, nx, ln, gm, nm, t, fs)) : wpX_group post (lr, nx, ln, go, ng, tr, fs) (nI a) := by
  unfold wpX_group
  dsimp only
  refine zx_st1 ha (br_f zb_10 (zx_div hR (Or.inl ⟨rfl, rfl⟩) (zRp_own hn) (fun gm nm t hg ht => ?_)))
  exact ⟨9, zx_gr18 ha hg (fun x hx => H gm nm t x hx) 8 0 0 rfl zo_0⟩
theorem zx_cg4 {post : Int32 → Prop} {r : Nat} (hg : zG (zE S r) 8 go) (H : post (nI (cn (zLd (zE S r)) 8))) : ∀ d i, i + d = 8 → wX_countGroups_4 post lr nx ln go ng tr fs (d + 1) (nI (cn (zLd (zE S r)) i)) (nI i) := by
  intro d
  induction d with
  | zero =>
    intro i hi
    have e : i = 8 := by omega
    subst e
    exact br_t zk_8t H
  | succ d ih =>
    intro i hi
    have hi8 : i < 8 := by omega
    have q := zG_l hg (Nat.le_refl 8) hi8 (zE_r S r i)
    refine br_f (zk_8f hi8) ⟨vp_in_nI (by omega) (by decide), ?_⟩
    rw [nI_clamp (n := i) (by omega)]
    exact br_c (fun e => nm_r (zcn_t (q.mp e)) (nm_r (nI_1 i) (ih (i + 1) (by omega)))) (fun e => nm_r (zcn_0 (fun w => e (q.mpr w))) (nm_r (nI_1 i) (ih (i + 1) (by omega))))
theorem zx_cg {post : Int32 → Prop} {r : Nat} (hg : zG (zE S r) 8 go) (H : post (nI (cn (zLd (zE S r)) 8))) : wpX_countGroups post (lr, nx, ln, go, ng, tr, fs) := by
  unfold wpX_countGroups
  dsimp only
  exact ⟨9, zx_cg4 hg H 8 0 rfl⟩
theorem zx_gs {post : Int32 → SX → Prop} (hn : zn_Ok nx) (hR : zR (zS nx) R) (H : ∀ gm nm t, post (nI (cn (zLd (zE (zS nx) (R + 1))) 8)) (nI R, nx, ln, gm, nm, t, fs)) : wpX_groups post (lr, nx, ln, go, ng, tr, fs) := by
  unfold wpX_groups
  dsimp only
  refine zx_div hR (Or.inl ⟨rfl, rfl⟩) (zRp_own hn) (fun gm nm t hg ht => ?_)
  exact zx_cg hg (H gm nm t)
theorem zx_lgs {post : Int32 → SX → Prop} (hn : zn_Ok nx) (hR : zR (zL nx) R) (H : ∀ lm gm nm t, post (nI (cn (zLd (zE (zL nx) (R + 1))) 8)) (nI R, nx, lm, gm, nm, t, fs)) : wpX_looseGroups post (lr, nx, ln, go, ng, tr, fs) := by
  unfold wpX_looseGroups
  dsimp only
  refine zx_len hn (fun lm hl => ?_)
  dsimp only
  refine zx_div hR (Or.inr ⟨rfl, rfl⟩) hl (fun gm nm t hg ht => ?_)
  exact zx_cg hg (H lm gm nm t)
theorem zx_ta {post : Int32 → SX → Prop} {a b : Nat} (hn : zn_Ok nx) (hR : zR (zS nx) R) (ha : a < 8) (hb : b < 8) (H : ∀ gm nm t x, zTv (zS nx) (R + 1) a b x → post x (nI R, nx, ln, gm, nm, t, fs)) : wpX_toldAfter post (lr, nx, ln, go, ng, tr, fs) (nI a) (nI b) := by
  unfold wpX_toldAfter
  dsimp only
  refine zx_st1 ha (br_f zb_10 (zx_st1 hb (br_f zb_10 (zx_div hR (Or.inl ⟨rfl, rfl⟩) (zRp_own hn) (fun gm nm t hg ht => ?_)))))
  dsimp only
  rw [zi_x, nI_clamp (by omega)]
  exact ⟨vp_in_nI (by omega) (by decide), H gm nm t _ (zTs_c ht ha hb)⟩
theorem zx_ro {post : Int32 → SX → Prop} (hn : zn_Ok nx) (hR : zR (zS nx) R) (H : ∀ gm nm t, post (nI R) (nI R, nx, ln, gm, nm, t, fs)) : wpX_rounds post (lr, nx, ln, go, ng, tr, fs) := by
  unfold wpX_rounds
  dsimp only
  exact zx_div hR (Or.inl ⟨rfl, rfl⟩) (zRp_own hn) (fun gm nm t hg ht => H gm nm t)
/-! reference -/
theorem zy_alt {post : Int32 → SY → Prop} {r a b : Nat} {t : Nat → Int32} (ht : zTs S r t) (hr : r ≤ 100) (ha : a < 8) (hb : b < 8) (H : ∀ x, zFl x (zE S r a b) → post x (nx, fa, t, ke, af)) : vp_in ((8 * nI a) + nI b) 64 ∧ ((0 ≤ t ((8 * nI a) + nI b).toNatClampNeg → post 0 (nx, fa, t, ke, af)) ∧ (¬ 0 ≤ t ((8 * nI a) + nI b).toNatClampNeg → post 1 (nx, fa, t, ke, af))) := by
  rw [zi_y, nI_clamp (by omega)]
  have q := zTv_p (zTs_c ht ha hb) hr
  exact ⟨vp_in_nI (by omega) (by decide), br_c (fun z => H 0 (Or.inr ⟨rfl, q.mp z⟩)) (fun z => H 1 (Or.inl ⟨rfl, Classical.byContradiction fun w => z (q.mpr w)⟩))⟩
theorem zR_100 (h : zR S R) : R + 1 ≤ 100 := by
  have := h.1
  omega
theorem zy_al {post : Int32 → SY → Prop} {a b : Nat} (hn : zn_Ok nx) (hR : zR (zS nx) R) (ha : a < 8) (hb : b < 8) (H : ∀ fm t x, zFl x (zE (zS nx) (R + 1) a b) → post x (nx, fm, t, ke, af)) : wpY_alike post (nx, fa, to, ke, af) (nI a) (nI b) := by
  unfold wpY_alike
  dsimp only
  refine zy_ts hn hR (fun fm t ht => ?_)
  exact zy_st1 ha (br_f zb_10 (zy_st1 hb (br_f zb_10 (zy_alt ht (zR_100 hR) ha hb (fun x hx => H fm t x hx)))))
theorem zy_lal {post : Int32 → SY → Prop} {a b : Nat} (hn : zn_Ok nx) (hR : zR (zL nx) R) (ha : a < 8) (hb : b < 8) (H : ∀ fm t x, zFl x (zE (zL nx) (R + 1) a b) → post x (nx, fm, t, ke, af)) : wpY_looselyAlike post (nx, fa, to, ke, af) (nI a) (nI b) := by
  unfold wpY_looselyAlike
  dsimp only
  refine zy_tl hn hR (fun fm t ht => ?_)
  exact zy_st1 ha (br_f zb_10 (zy_st1 hb (br_f zb_10 (zy_alt ht (zR_100 hR) ha hb (fun x hx => H fm t x hx)))))
theorem zy_al0 {post : Int32 → SY → Prop} {p0 p1 : Int32} (hn : zn_Ok nx) (hR : zR (zS nx) R) (h : ¬ (zQ 8 p0 ∧ zQ 8 p1)) (H : ∀ fm t, post 0 (nx, fm, t, ke, af)) : wpY_alike post (nx, fa, to, ke, af) p0 p1 := by
  unfold wpY_alike
  dsimp only
  refine zy_ts hn hR (fun fm t ht => ?_)
  rcases Classical.em (zQ 8 p0) with h0 | h0
  · obtain ⟨a, ha, rfl⟩ := h0
    exact zy_st1 ha (br_f zb_10 (zy_st0 (fun z => h ⟨⟨a, ha, rfl⟩, z⟩) (br_t rfl (H fm t))))
  · exact zy_st0 h0 (br_t rfl (H fm t))
theorem zy_lal0 {post : Int32 → SY → Prop} {p0 p1 : Int32} (hn : zn_Ok nx) (hR : zR (zL nx) R) (h : ¬ (zQ 8 p0 ∧ zQ 8 p1)) (H : ∀ fm t, post 0 (nx, fm, t, ke, af)) : wpY_looselyAlike post (nx, fa, to, ke, af) p0 p1 := by
  unfold wpY_looselyAlike
  dsimp only
  refine zy_tl hn hR (fun fm t ht => ?_)
  rcases Classical.em (zQ 8 p0) with h0 | h0
  · obtain ⟨a, ha, rfl⟩ := h0
    exact zy_st1 ha (br_f zb_10 (zy_st0 (fun z => h ⟨⟨a, ha, rfl⟩, z⟩) (br_t rfl (H fm t))))
  · exact zy_st0 h0 (br_t rfl (H fm t))
theorem zy_gr8 {post : Int32 → SY → Prop} {r a : Nat} (hr : r ≤ 100) (ha : a < 8) (ht : zTs S r to) (H : ∀ x, zs_Is x (zE S r a) → post x (nx, fa, to, ke, af)) : ∀ d i s, i + d = 8 → zo_I (zE S r a) (fun b j => j = b) i s → wY_group_8 post (nI a) nx fa to ke af (d + 1) s (nI i) := by
  intro d
  induction d with
  | zero =>
    intro i s hi h
    have e : i = 8 := by omega
    subst e
    exact br_t zk_8t (H s (zo_own h))
  | succ d ih =>
    intro i s hi h
    have hi8 : i < 8 := by omega
    have q := zTv_p (zTs_c ht ha hi8) hr
    refine br_f (zk_8f hi8) (zy_st1 ha (br_f zb_10 ?_))
    rw [zi_y, nI_clamp (by omega)]
    exact ⟨vp_in_nI (by omega) (by decide), br_c (fun z => nm_r (nI_1 i) (ih (i + 1) s (by omega) (zo_f h (q.mp z)))) (fun z => nm_e (nm_r (nI_1 i) (ih (i + 1) _ (by omega) (zo_t h (Classical.byContradiction fun w => z (q.mpr w)) (fun j => zb_sht (by omega) j)))))⟩
theorem zy_gr {post : Int32 → SY → Prop} {a : Nat} (hn : zn_Ok nx) (hR : zR (zS nx) R) (ha : a < 8) (H : ∀ fm t x, zs_Is x (zE (zS nx) (R + 1) a) → post x (nx, fm, t, ke, af)) : wpY_group post (nx, fa, to, ke, af) (nI a) := by
  unfold wpY_group
  dsimp only
  refine zy_ts hn hR (fun fm t ht => ?_)
  exact ⟨9, zy_gr8 (zR_100 hR) ha ht (fun x hx => H fm t x hx) 8 0 0 rfl zo_0⟩
theorem zy_gr0 {post : Int32 → SY → Prop} {p0 : Int32} (hn : zn_Ok nx) (hR : zR (zS nx) R) (h : ¬ zQ 8 p0) (H : ∀ fm t, post 0 (nx, fm, t, ke, af)) : wpY_group post (nx, fa, to, ke, af) p0 := by
  unfold wpY_group
  dsimp only
  refine zy_ts hn hR (fun fm t ht => ?_)
  exact ⟨1, br_f (zk_8f (i := 0) (by decide)) (zy_st0 h (br_t rfl (H fm t)))⟩
theorem zy_co15 {post : Int32 → Prop} {J : Int32 → Int32 → Prop} {r a m : Nat} (hr : r ≤ 100) (ha : a < 8) (ht : zTs S r to) (t : zLd (zE S r) a → J (nI m + 1) (nI (a + 1))) (f : ¬ zLd (zE S r) a → J (nI m) (nI (a + 1))) : ∀ d b x, b + d = a → zFl x (∀ j, j < b → ¬ zE S r a j) → wY_count_15 post J (nI m) (nI a) nx fa to ke af (d + 1) x (nI b) := by
  intro d
  induction d with
  | zero =>
    intro b x hb h
    have e : b = a := by omega
    subst e
    exact br_t (nI_le (Nat.le_refl b) (by omega)) (zFl_br h (fun w => nm_r (nI_1 b) (f w)) (fun w => nm_e (nm_r (nI_1 b) (t w))))
  | succ d ih =>
    intro b x hb h
    have q := zTv_n (zTs_c ht ha (by omega : b < 8)) hr
    refine br_f (nI_ge (by omega) (by omega)) ?_
    rw [zi_y, nI_clamp (by omega)]
    exact zFl_br h (fun w => nm_r (nI_1 b) (ih (b + 1) 0 (by omega) (Or.inr ⟨rfl, fun z => w (fun j hj => z j (by omega))⟩))) (fun w => ⟨vp_in_nI (by omega) (by decide), br_c (fun z => nm_r (nI_1 b) (ih (b + 1) 0 (by omega) (Or.inr ⟨rfl, fun y => y b (by omega) (q.mp z)⟩))) (fun z => nm_r (nI_1 b) (ih (b + 1) 1 (by omega) (Or.inl ⟨rfl, lt_s w (fun y => z (q.mpr y))⟩)))⟩)
theorem zy_co4 {post : Int32 → Prop} {r : Nat} (hr : r ≤ 100) (ht : zTs S r to) (H : post (nI (cn (zLd (zE S r)) 8))) : ∀ d i, i + d = 8 → wY_count_4 post nx fa to ke af (d + 1) (nI (cn (zLd (zE S r)) i)) (nI i) := by
  intro d
  induction d with
  | zero =>
    intro i hi
    have e : i = 8 := by omega
    subst e
    exact br_t zk_8t H
  | succ d ih =>
    intro i hi
    have hi8 : i < 8 := by omega
    refine br_f (zk_8f hi8) ⟨i + 1, zy_co15 hr hi8 ht (fun w => ?_) (fun w => ?_) i 0 1 (Nat.zero_add i) (Or.inl ⟨rfl, fun j hj => absurd hj (Nat.not_lt_zero j)⟩)⟩
    · rw [zcn_t w]
      exact ih (i + 1) (by omega)
    · rw [zcn_f w]
      exact ih (i + 1) (by omega)
theorem zy_co {post : Int32 → Prop} {r : Nat} (hr : r ≤ 100) (ht : zTs S r to) (H : post (nI (cn (zLd (zE S r)) 8))) : wpY_count post (nx, fa, to, ke, af) := by
  unfold wpY_count
  dsimp only
  exact ⟨9, zy_co4 hr ht H 8 0 rfl⟩
theorem zy_gs {post : Int32 → SY → Prop} (hn : zn_Ok nx) (hR : zR (zS nx) R) (H : ∀ fm t, post (nI (cn (zLd (zE (zS nx) (R + 1))) 8)) (nx, fm, t, ke, af)) : wpY_groups post (nx, fa, to, ke, af) := by
  unfold wpY_groups
  dsimp only
  refine zy_ts hn hR (fun fm t ht => ?_)
  exact zy_co (zR_100 hR) ht (H fm t)
theorem zy_lgs {post : Int32 → SY → Prop} (hn : zn_Ok nx) (hR : zR (zL nx) R) (H : ∀ fm t, post (nI (cn (zLd (zE (zL nx) (R + 1))) 8)) (nx, fm, t, ke, af)) : wpY_looseGroups post (nx, fa, to, ke, af) := by
  unfold wpY_looseGroups
  dsimp only
  refine zy_tl hn hR (fun fm t ht => ?_)
  exact zy_co (zR_100 hR) ht (H fm t)
theorem zy_ta {post : Int32 → SY → Prop} {a b : Nat} (hn : zn_Ok nx) (hR : zR (zS nx) R) (ha : a < 8) (hb : b < 8) (H : ∀ fm t x, zTv (zS nx) (R + 1) a b x → post x (nx, fm, t, ke, af)) : wpY_toldAfter post (nx, fa, to, ke, af) (nI a) (nI b) := by
  unfold wpY_toldAfter
  dsimp only
  refine zy_ts hn hR (fun fm t ht => ?_)
  refine zy_st1 ha (br_f zb_10 (zy_st1 hb (br_f zb_10 ?_)))
  rw [zi_y, nI_clamp (by omega)]
  exact ⟨vp_in_nI (by omega) (by decide), H fm t _ (zTs_c ht ha hb)⟩
theorem zy_ta0 {post : Int32 → SY → Prop} {p0 p1 : Int32} (hn : zn_Ok nx) (hR : zR (zS nx) R) (h : ¬ (zQ 8 p0 ∧ zQ 8 p1)) (H : ∀ fm t, post (-1) (nx, fm, t, ke, af)) : wpY_toldAfter post (nx, fa, to, ke, af) p0 p1 := by
  unfold wpY_toldAfter
  dsimp only
  refine zy_ts hn hR (fun fm t ht => ?_)
  rcases Classical.em (zQ 8 p0) with h0 | h0
  · obtain ⟨a, ha, rfl⟩ := h0
    exact zy_st1 ha (br_f zb_10 (zy_st0 (fun z => h ⟨⟨a, ha, rfl⟩, z⟩) (br_t rfl (H fm t))))
  · exact zy_st0 h0 (br_t rfl (H fm t))
theorem zk_m1 {m : Nat} (h : m < 2 ^ 31) : (-1 : Int32) ≤ nI m := by
  have e : (-1 : Int32).toInt = -1 := by decide
  rw [Int32.le_iff_toInt_le, e, nI_toInt h]
  omega
def zMx (R i : Nat) (to : Nat → Int32) (m : Nat) : Prop := m ≤ R ∧ ∀ c, c < i → ∀ k, k < R → to c = nI (k + 1) → k + 1 ≤ m
theorem zMx_e {m : Nat} (hR : zR S R) (ht : zTs S (R + 1) to) (h : zMx R 64 to m) : m = R := by
  have h1 := h.1
  rcases Nat.eq_zero_or_pos R with z | z
  · omega
  · obtain ⟨c, hc, q⟩ := hR.2.2 (R - 1) (by omega)
    have w : zTv S (R + 1) (c / 8) (c % 8) (nI (R - 1 + 1)) := Or.inr ⟨R - 1, by omega, q.1, q.2, rfl⟩
    have y := h.2 c hc (R - 1) (by omega) (zTv_u (ht c hc) w)
    omega
theorem zy_ro8 {post : Int32 → SY → Prop} (hR : zR S R) (ht : zTs S (R + 1) to) (H : post (nI R) (nx, fa, to, ke, af)) : ∀ d i m, i + d = 64 → zMx R i to m → wY_rounds_8 post nx fa to ke af (d + 1) (nI m) (nI i) := by
  have h7 := hR.1
  intro d
  induction d with
  | zero =>
    intro i m hi h
    have e : i = 64 := by omega
    subst e
    refine br_t zk_64t ?_
    rw [zMx_e hR ht h]
    exact H
  | succ d ih =>
    intro i m hi h
    have hm := h.1
    refine br_f (zk_64f (by omega)) ⟨vp_in_nI (by omega) (by decide), ?_⟩
    rw [nI_clamp (by omega)]
    refine br_c (fun z => nm_r (nI_1 i) (ih (i + 1) m (by omega) ⟨hm, lt_s h.2 (fun k hk e => ?_)⟩)) (fun z => ⟨vp_in_nI (by omega) (by decide), ?_⟩)
    · rw [e] at z
      exact (nI_leI (by omega) (by omega)).mp z
    · rcases ht i (by omega) with ⟨_, e⟩ | ⟨k, hk, e1, e2, e⟩
      · rw [e] at z
        exact absurd (zk_m1 (by omega)) z
      · have hk' : k < R := by
          rcases Nat.lt_or_ge k R with g | g
          · exact g
          · have e3 : k = R := by omega
            subst e3
            exact absurd ⟨i, by omega, e1, e2⟩ hR.2.1
        have zz : ¬ k + 1 ≤ m := fun y => z (by rw [e]; exact (nI_leI (by omega) (by omega)).mpr y)
        refine nm_r e (nm_r (nI_1 i) (ih (i + 1) (k + 1) (by omega) ⟨hk', lt_s (fun c hc k' hk2 e' => ?_) (fun k' hk2 e' => ?_)⟩))
        · have := h.2 c hc k' hk2 e'
          omega
        · have := (nI_eq (by omega) (by omega)).mp (e'.symm.trans e)
          omega
theorem zy_ro {post : Int32 → SY → Prop} (hn : zn_Ok nx) (hR : zR (zS nx) R) (H : ∀ fm t, post (nI R) (nx, fm, t, ke, af)) : wpY_rounds post (nx, fa, to, ke, af) := by
  unfold wpY_rounds
  dsimp only
  refine zy_ts hn hR (fun fm t ht => ?_)
  exact ⟨65, zy_ro8 hR ht (H fm t) 64 0 0 rfl ⟨Nat.zero_le R, fun c hc => absurd hc (Nat.not_lt_zero c)⟩⟩
theorem zx_al0 {post : Int32 → SX → Prop} {p0 p1 : Int32} (h : ¬ (zQ 8 p0 ∧ zQ 8 p1)) (H : post 0 (lr, nx, ln, go, ng, tr, fs)) : wpX_alike post (lr, nx, ln, go, ng, tr, fs) p0 p1 := by
  unfold wpX_alike
  dsimp only
  rcases Classical.em (zQ 8 p0) with h0 | h0
  · obtain ⟨a, ha, rfl⟩ := h0
    exact zx_st1 ha (br_f zb_10 (zx_st0 (fun z => h ⟨⟨a, ha, rfl⟩, z⟩) (br_t rfl H)))
  · exact zx_st0 h0 (br_t rfl H)
theorem zx_lal0 {post : Int32 → SX → Prop} {p0 p1 : Int32} (h : ¬ (zQ 8 p0 ∧ zQ 8 p1)) (H : post 0 (lr, nx, ln, go, ng, tr, fs)) : wpX_looselyAlike post (lr, nx, ln, go, ng, tr, fs) p0 p1 := by
  unfold wpX_looselyAlike
  dsimp only
  rcases Classical.em (zQ 8 p0) with h0 | h0
  · obtain ⟨a, ha, rfl⟩ := h0
    exact zx_st1 ha (br_f zb_10 (zx_st0 (fun z => h ⟨⟨a, ha, rfl⟩, z⟩) (br_t rfl H)))
  · exact zx_st0 h0 (br_t rfl H)
theorem zx_ta0 {post : Int32 → SX → Prop} {p0 p1 : Int32} (h : ¬ (zQ 8 p0 ∧ zQ 8 p1)) (H : post (-1) (lr, nx, ln, go, ng, tr, fs)) : wpX_toldAfter post (lr, nx, ln, go, ng, tr, fs) p0 p1 := by
  unfold wpX_toldAfter
  dsimp only
  rcases Classical.em (zQ 8 p0) with h0 | h0
  · obtain ⟨a, ha, rfl⟩ := h0
    exact zx_st1 ha (br_f zb_10 (zx_st0 (fun z => h ⟨⟨a, ha, rfl⟩, z⟩) (br_t rfl H)))
  · exact zx_st0 h0 (br_t rfl H)
theorem zx_gr0 {post : Int32 → SX → Prop} {p0 : Int32} (h : ¬ zQ 8 p0) (H : post 0 (lr, nx, ln, go, ng, tr, fs)) : wpX_group post (lr, nx, ln, go, ng, tr, fs) p0 := by
  unfold wpX_group
  dsimp only
  exact zx_st0 h (br_t rfl H)
end
theorem i_vc_alike {k : Nat} {u : SX} {v : SY} (I : i_Rel k u v) (hk : k + 4 ≤ 2048) (v1 : Int32) (v2 : Int32) : wpX_alike (fun r u' => wpY_alike (fun r' v' => r' = r ∧ i_Rel (k + 4) u' v') v v1 v2) u v1 v2 := by
  refine zr_e (k := k) (P := fun u v => wpX_alike (fun r u' => wpY_alike (fun r' v' => r' = r ∧ i_Rel (k + 4) u' v') v v1 v2) u v1 v2) ?_ I
  intro lr nx ln go ng tr fs fa to ke af hn
  obtain ⟨R, hR⟩ := zR_ex (zS nx)
  rcases Classical.em (zQ 8 v1 ∧ zQ 8 v2) with h | h
  · obtain ⟨⟨a, ha, rfl⟩, ⟨b, hb, rfl⟩⟩ := h
    exact zx_al hn hR ha hb (fun gm nm t x hx => zy_al hn hR ha hb (fun fm t' x' hx' => ⟨zFl_uq hx' hx Iff.rfl, zr_i hn⟩))
  · exact zx_al0 h (zy_al0 hn hR h (fun fm t => ⟨rfl, zr_i hn⟩))
theorem i_vc_looselyAlike {k : Nat} {u : SX} {v : SY} (I : i_Rel k u v) (hk : k + 4 ≤ 2048) (v1 : Int32) (v2 : Int32) : wpX_looselyAlike (fun r u' => wpY_looselyAlike (fun r' v' => r' = r ∧ i_Rel (k + 4) u' v') v v1 v2) u v1 v2 := by
  refine zr_e (k := k) (P := fun u v => wpX_looselyAlike (fun r u' => wpY_looselyAlike (fun r' v' => r' = r ∧ i_Rel (k + 4) u' v') v v1 v2) u v1 v2) ?_ I
  intro lr nx ln go ng tr fs fa to ke af hn
  obtain ⟨R, hR⟩ := zR_ex (zL nx)
  rcases Classical.em (zQ 8 v1 ∧ zQ 8 v2) with h | h
  · obtain ⟨⟨a, ha, rfl⟩, ⟨b, hb, rfl⟩⟩ := h
    exact zx_lal hn hR ha hb (fun lm gm nm t x hx => zy_lal hn hR ha hb (fun fm t' x' hx' => ⟨zFl_uq hx' hx Iff.rfl, zr_i hn⟩))
  · exact zx_lal0 h (zy_lal0 hn hR h (fun fm t => ⟨rfl, zr_i hn⟩))
theorem i_vc_group {k : Nat} {u : SX} {v : SY} (I : i_Rel k u v) (hk : k + 4 ≤ 2048) (v1 : Int32) : wpX_group (fun r u' => wpY_group (fun r' v' => r' = r ∧ i_Rel (k + 4) u' v') v v1) u v1 := by
  refine zr_e (k := k) (P := fun u v => wpX_group (fun r u' => wpY_group (fun r' v' => r' = r ∧ i_Rel (k + 4) u' v') v v1) u v1) ?_ I
  intro lr nx ln go ng tr fs fa to ke af hn
  obtain ⟨R, hR⟩ := zR_ex (zS nx)
  rcases Classical.em (zQ 8 v1) with h | h
  · obtain ⟨a, ha, rfl⟩ := h
    exact zx_gr hn hR ha (fun gm nm t x hx => zy_gr hn hR ha (fun fm t' x' hx' => ⟨zs_uq hx' hx (fun _ _ => Iff.rfl), zr_i hn⟩))
  · exact zx_gr0 h (zy_gr0 hn hR h (fun fm t => ⟨rfl, zr_i hn⟩))
theorem i_vc_groups {k : Nat} {u : SX} {v : SY} (I : i_Rel k u v) (hk : k + 4 ≤ 2048) : wpX_groups (fun r u' => wpY_groups (fun r' v' => r' = r ∧ i_Rel (k + 4) u' v') v) u := by
  refine zr_e (k := k) (P := fun u v => wpX_groups (fun r u' => wpY_groups (fun r' v' => r' = r ∧ i_Rel (k + 4) u' v') v) u) ?_ I
  intro lr nx ln go ng tr fs fa to ke af hn
  obtain ⟨R, hR⟩ := zR_ex (zS nx)
  exact zx_gs hn hR (fun gm nm t => zy_gs hn hR (fun fm t' => ⟨rfl, zr_i hn⟩))
theorem i_vc_looseGroups {k : Nat} {u : SX} {v : SY} (I : i_Rel k u v) (hk : k + 4 ≤ 2048) : wpX_looseGroups (fun r u' => wpY_looseGroups (fun r' v' => r' = r ∧ i_Rel (k + 4) u' v') v) u := by
  refine zr_e (k := k) (P := fun u v => wpX_looseGroups (fun r u' => wpY_looseGroups (fun r' v' => r' = r ∧ i_Rel (k + 4) u' v') v) u) ?_ I
  intro lr nx ln go ng tr fs fa to ke af hn
  obtain ⟨R, hR⟩ := zR_ex (zL nx)
  exact zx_lgs hn hR (fun lm gm nm t => zy_lgs hn hR (fun fm t' => ⟨rfl, zr_i hn⟩))
theorem i_vc_toldAfter {k : Nat} {u : SX} {v : SY} (I : i_Rel k u v) (hk : k + 4 ≤ 2048) (v1 : Int32) (v2 : Int32) : wpX_toldAfter (fun r u' => wpY_toldAfter (fun r' v' => r' = r ∧ i_Rel (k + 4) u' v') v v1 v2) u v1 v2 := by
  refine zr_e (k := k) (P := fun u v => wpX_toldAfter (fun r u' => wpY_toldAfter (fun r' v' => r' = r ∧ i_Rel (k + 4) u' v') v v1 v2) u v1 v2) ?_ I
  intro lr nx ln go ng tr fs fa to ke af hn
  obtain ⟨R, hR⟩ := zR_ex (zS nx)
  rcases Classical.em (zQ 8 v1 ∧ zQ 8 v2) with h | h
  · obtain ⟨⟨a, ha, rfl⟩, ⟨b, hb, rfl⟩⟩ := h
    exact zx_ta hn hR ha hb (fun gm nm t x hx => zy_ta hn hR ha hb (fun fm t' x' hx' => ⟨zTv_u hx' hx, zr_i hn⟩))
  · exact zx_ta0 h (zy_ta0 hn hR h (fun fm t => ⟨rfl, zr_i hn⟩))
theorem i_vc_rounds {k : Nat} {u : SX} {v : SY} (I : i_Rel k u v) (hk : k + 4 ≤ 2048) : wpX_rounds (fun r u' => wpY_rounds (fun r' v' => r' = r ∧ i_Rel (k + 4) u' v') v) u := by
  refine zr_e (k := k) (P := fun u v => wpX_rounds (fun r u' => wpY_rounds (fun r' v' => r' = r ∧ i_Rel (k + 4) u' v') v) u) ?_ I
  intro lr nx ln go ng tr fs fa to ke af hn
  obtain ⟨R, hR⟩ := zR_ex (zS nx)
  exact zx_ro hn hR (fun gm nm t => zy_ro hn hR (fun fm t' => ⟨rfl, zr_i hn⟩))
end
section
/-! followers: the greatest relation that answers every step -/
def zAn (S : Nat → Nat → Nat → Prop) (Q : Nat → Nat → Prop) (b a : Nat) : Prop := ∀ l c, l < 3 → c < 8 → S l a c → ∃ d, d < 8 ∧ S l b d ∧ Q d c
def zSim (S : Nat → Nat → Nat → Prop) (Q : Nat → Nat → Prop) : Prop := ∀ a b, a < 8 → b < 8 → Q b a → zAn S Q b a
def zF (S : Nat → Nat → Nat → Prop) (b a : Nat) : Prop := ∃ Q : Nat → Nat → Prop, zSim S Q ∧ Q b a
def zUp (S : Nat → Nat → Nat → Prop) (P : Nat → Nat → Prop) : Prop := ∀ a b, a < 8 → b < 8 → zF S b a → P b a
theorem zF_an {S : Nat → Nat → Nat → Prop} {P : Nat → Nat → Prop} {a b : Nat} (h : zUp S P) (ha : a < 8) (hb : b < 8) (f : zF S b a) : zAn S P b a := fun l c hl hc s => by
  obtain ⟨Q, hQ, q⟩ := f
  obtain ⟨d, hd, s', q'⟩ := hQ a b ha hb q l c hl hc s
  exact ⟨d, hd, s', h c d hc hd ⟨Q, hQ, q'⟩⟩
theorem zF_eq {S : Nat → Nat → Nat → Prop} {P : Nat → Nat → Prop} (h : zUp S P) (hs : zSim S P) : ∀ a b, a < 8 → b < 8 → (P b a ↔ zF S b a) := fun a b ha hb => ⟨fun p => ⟨P, hs, p⟩, h a b ha hb⟩
noncomputable def zN (P : Nat → Nat → Prop) : Nat := cn (fun c => P (c / 8) (c % 8)) 64
theorem zN_lt {P P' : Nat → Nat → Prop} {a b : Nat} (h : ∀ a b, a < 8 → b < 8 → P' b a → P b a) (ha : a < 8) (hb : b < 8) (p : P b a) (n : ¬ P' b a) : zN P' < zN P := by
  have e1 : (8 * b + a) / 8 = b := by omega
  have e2 : (8 * b + a) % 8 = a := by omega
  refine cn_lt (a := 8 * b + a) ?_ ?_ (fun c hc q => h (c % 8) (c / 8) (by omega) (by omega) q) (by omega)
  · show ¬ P' ((8 * b + a) / 8) ((8 * b + a) % 8)
    rw [e1, e2]
    exact n
  · show P ((8 * b + a) / 8) ((8 * b + a) % 8)
    rw [e1, e2]
    exact p
def zV (S : Nat → Nat → Nat → Prop) (P0 D : Nat → Nat → Prop) (x : Int32) (P : Nat → Nat → Prop) : Prop :=
  zUp S P ∧ (zN P ≤ zN P0) ∧ ((x = 0 ∧ ∀ a b, a < 8 → b < 8 → D b a → P b a → zAn S P b a) ∨ (x = 1 ∧ zN P < zN P0))
theorem zV_0 {S : Nat → Nat → Nat → Prop} {P D : Nat → Nat → Prop} (h : zUp S P) (hD : ∀ a b, ¬ D b a) : zV S P D 0 P := ⟨h, Nat.le_refl _, Or.inl ⟨rfl, fun a b _ _ d => absurd d (hD a b)⟩⟩
theorem zV_01 {S : Nat → Nat → Nat → Prop} {P0 D P : Nat → Nat → Prop} {x : Int32} (h : zV S P0 D x P) : x = 0 ∨ x = 1 := h.2.2.elim (fun w => Or.inl w.1) (fun w => Or.inr w.1)
theorem zV_or {S : Nat → Nat → Nat → Prop} {P0 D P : Nat → Nat → Prop} {x : Int32} (h : zV S P0 D x P) : x ||| 1 = 1 := by
  rcases zV_01 h with e | e
  · rw [e]; decide
  · rw [e]; decide
theorem zV_k {S : Nat → Nat → Nat → Prop} {P0 D D' P : Nat → Nat → Prop} {x : Int32} (h : zV S P0 D x P) (hD : ∀ a b, a < 8 → b < 8 → D' b a → ¬ D b a → P b a → zAn S P b a) : zV S P0 D' x P := by
  refine ⟨h.1, h.2.1, h.2.2.elim (fun w => Or.inl ⟨w.1, fun a b ha hb d p => ?_⟩) Or.inr⟩
  rcases Classical.em (D b a) with z | z
  · exact w.2 a b ha hb z p
  · exact hD a b ha hb d z p
theorem zV_c {S : Nat → Nat → Nat → Prop} {P0 D D' P P' : Nat → Nat → Prop} {x : Int32} {a b : Nat} (h : zV S P0 D x P) (hs : ∀ a b, a < 8 → b < 8 → P' b a → P b a) (hu : zUp S P') (ha : a < 8) (hb : b < 8) (p : P b a) (n : ¬ P' b a) : zV S P0 D' 1 P' := by
  have w := zN_lt hs ha hb p n
  have y := h.2.1
  exact ⟨hu, by omega, Or.inr ⟨rfl, by omega⟩⟩
def zW (S : Nat → Nat → Nat → Prop) (k : Nat) (x : Int32) (P : Nat → Nat → Prop) : Prop := zUp S P ∧ ((x = 0 ∧ zSim S P) ∨ (x = 1 ∧ zN P + k ≤ 64))
theorem zW_0 {S : Nat → Nat → Nat → Prop} {P : Nat → Nat → Prop} (h : zUp S P) : zW S 0 1 P := by
  have w : zN P ≤ 64 := cn_le (fun c => P (c / 8) (c % 8)) 64
  exact ⟨h, Or.inr ⟨rfl, by omega⟩⟩
theorem zW_s {S : Nat → Nat → Nat → Prop} {P0 D P : Nat → Nat → Prop} {x : Int32} {k : Nat} (h0 : zN P0 + k ≤ 64) (h : zV S P0 D x P) (hD : ∀ a b, a < 8 → b < 8 → D b a) : zW S (k + 1) x P :=
  ⟨h.1, h.2.2.elim (fun w => Or.inl ⟨w.1, fun a b ha hb p => w.2 a b ha hb (hD a b ha hb) p⟩) (fun w => Or.inr ⟨w.1, by have := w.2; omega⟩)⟩
theorem zW_e {S : Nat → Nat → Nat → Prop} {P : Nat → Nat → Prop} {x : Int32} (h : zW S 65 x P) : ∀ a b, a < 8 → b < 8 → (P b a ↔ zF S b a) := by
  rcases h.2 with w | w
  · exact zF_eq h.1 w.2
  · have := w.2
    omega
def zPx (fs : Nat → Int32) (b a : Nat) : Prop := bt (fs a) b = true
def zPy (af : Nat → Int32) (b a : Nat) : Prop := ¬ af (8 * b + a) = 0
theorem zb_meet {x y : Int32} (hx : zs_Sm x) : ¬ (x &&& y) = 0 ↔ ∃ d, d < 8 ∧ bt x d = true ∧ bt y d = true := by
  rw [zs_ne0]
  constructor
  · rintro ⟨j, hj⟩
    rw [b_and, Bool.and_eq_true] at hj
    exact ⟨j, zs_lt hx hj.1, hj⟩
  · rintro ⟨j, _, hj⟩
    refine ⟨j, ?_⟩
    rw [b_and, Bool.and_eq_true]
    exact hj
def zAl (nx fs : Nat → Int32) (a l c : Nat) (s : Int32) : Prop := ∀ b, bt s b = true ↔ (b < 8 ∧ ∀ l' c', l' < 3 → c' < 8 → (l' < l ∨ (l' = l ∧ c' < c)) → zS nx l' a c' → ∃ d, d < 8 ∧ zS nx l' b d ∧ zPx fs d c')
theorem zAl_0 {nx fs : Nat → Int32} {a : Nat} : zAl nx fs a 0 0 255 := fun b => by
  rw [b_255, decide_eq_true_eq]
  exact ⟨fun h => ⟨h, fun l' c' _ _ o => by omega⟩, fun h => h.1⟩
theorem zAl_f {nx fs : Nat → Int32} {a l c : Nat} {s : Int32} (h : zAl nx fs a l c s) (n : ¬ zS nx l a c) : zAl nx fs a l (c + 1) s := fun b => (h b).trans (and_congr_right fun _ => ⟨fun w l' c' hl hc o q => by
  have g : (l' < l ∨ (l' = l ∧ c' < c)) ∨ (l' = l ∧ c' = c) := by omega
  rcases g with g | ⟨g1, g2⟩
  · exact w l' c' hl hc g q
  · subst g1 g2
    exact absurd q n, fun w l' c' hl hc o q => w l' c' hl hc (by omega) q⟩)
theorem zAl_t {nx fs : Nat → Int32} {a l c : Nat} {s r : Int32} (h : zAl nx fs a l c s) (hl : l < 3) (hc : c < 8) (q : zS nx l a c) (hr : zs_Is r (fun b => ∃ d, d < 8 ∧ zS nx l b d ∧ zPx fs d c)) : zAl nx fs a l (c + 1) (s &&& r) := fun b => by
  rw [b_and, Bool.and_eq_true, h b, hr b]
  constructor
  · rintro ⟨⟨hb, w⟩, _, e⟩
    refine ⟨hb, fun l' c' hl' hc' o q' => ?_⟩
    have g : (l' < l ∨ (l' = l ∧ c' < c)) ∨ (l' = l ∧ c' = c) := by omega
    rcases g with g | ⟨g1, g2⟩
    · exact w l' c' hl' hc' g q'
    · subst g1 g2
      exact e
  · rintro ⟨hb, w⟩
    exact ⟨⟨hb, fun l' c' hl' hc' o q' => w l' c' hl' hc' (by omega) q'⟩, hb, w l c hl hc (Or.inr ⟨rfl, Nat.lt_succ_self c⟩) q⟩
theorem zAl_n {nx fs : Nat → Int32} {a l : Nat} {s : Int32} (h : zAl nx fs a l 8 s) : zAl nx fs a (l + 1) 0 s := fun b => (h b).trans (and_congr_right fun _ => ⟨fun w l' c' hl hc o q => w l' c' hl hc (by omega) q, fun w l' c' hl hc o q => w l' c' hl hc (by omega) q⟩)
theorem zAl_e {nx fs : Nat → Int32} {a : Nat} {s : Int32} (h : zAl nx fs a 3 0 s) : zs_Is s (fun b => zAn (zS nx) (zPx fs) b a) := fun b => (h b).trans (and_congr_right fun _ => ⟨fun w l c hl hc q => w l c hl hc (Or.inl hl) q, fun w l c hl hc _ q => w l c hl hc q⟩)
section
variable {lr : Int32} {nx ln go ng tr fs fa to ke af : Nat → Int32}
theorem zx_bf5 {post : Int32 → Prop} {l : Nat} {set : Int32} (hn : zn_Ok nx) (hl : l < 3) (H : ∀ r, zs_Is r (fun b => ∃ d, d < 8 ∧ zS nx l b d ∧ bt set d = true) → post r) : ∀ d i s, i + d = 8 → zo_I (fun b => ∃ d, d < 8 ∧ zS nx l b d ∧ bt set d = true) (fun b j => j = b) i s → wX_before_5 post (nI l) set lr nx ln go ng tr fs (d + 1) s (nI i) := by
  intro d
  induction d with
  | zero =>
    intro i s hi h
    have e : i = 8 := by omega
    subst e
    exact br_t zk_8t (H s (zo_own h))
  | succ d ih =>
    intro i s hi h
    have q := zb_meet (y := set) (hn (8 * l + i) (by omega))
    refine br_f (zk_8f (by omega)) ?_
    rw [zi_x, nI_clamp (by omega)]
    exact ⟨vp_in_nI (by omega) (by decide), br_c (fun e => nm_e (nm_r (nI_1 i) (ih (i + 1) _ (by omega) (zo_f0 h (fun w => q.mpr w e))))) (fun e => nm_e (nm_r (nI_1 i) (ih (i + 1) _ (by omega) (zo_t h (q.mp e) (fun j => zb_sht (by omega) j)))))⟩
theorem zx_bf {post : Int32 → Prop} {l : Nat} {set : Int32} (hn : zn_Ok nx) (hl : l < 3) (H : ∀ r, zs_Is r (fun b => ∃ d, d < 8 ∧ zS nx l b d ∧ bt set d = true) → post r) : wpX_before post (lr, nx, ln, go, ng, tr, fs) (nI l) set := by
  unfold wpX_before
  dsimp only
  exact ⟨9, zx_bf5 hn hl H 8 0 0 rfl zo_0⟩
theorem zx_aw14 {post : Int32 → Prop} {J : Int32 → Int32 → Prop} {a l : Nat} (hn : zn_Ok nx) (ha : a < 8) (hl : l < 3) (H : ∀ s, zAl nx fs a l 8 s → J s (nI l + 1)) : ∀ d i s, i + d = 8 → zAl nx fs a l i s → wX_allowed_14 post J (nI a) (nI l) lr nx ln go ng tr fs (d + 1) s (nI i) := by
  intro d
  induction d with
  | zero =>
    intro i s hi h
    have e : i = 8 := by omega
    subst e
    exact br_t zk_8t (nm_e (H s h))
  | succ d ih =>
    intro i s hi h
    have hi8 : i < 8 := by omega
    refine br_f (zk_8f hi8) (zx_hsb ha hi8 hl (fun f => nm_r (nI_1 i) (ih (i + 1) s (by omega) (zAl_f h f))) (fun t => ⟨vp_in_nI (by omega) (by decide), ?_⟩))
    rw [nI_clamp (by omega)]
    exact zx_bf hn hl (fun r hr => nm_e (nm_r (nI_1 i) (ih (i + 1) _ (by omega) (zAl_t h hl hi8 t hr))))
theorem zx_aw6 {post : Int32 → Prop} {a : Nat} (hn : zn_Ok nx) (ha : a < 8) (H : ∀ s, zs_Is s (fun b => zAn (zS nx) (zPx fs) b a) → post s) : ∀ d l s, l + d = 3 → zAl nx fs a l 0 s → wX_allowed_6 post (nI a) lr nx ln go ng tr fs (d + 1) s (nI l) := by
  intro d
  induction d with
  | zero =>
    intro l s hl h
    have e : l = 3 := by omega
    subst e
    exact br_t zk_3t (H s (zAl_e h))
  | succ d ih =>
    intro l s hl h
    refine br_f (zk_3f (by omega)) ⟨9, zx_aw14 hn ha (by omega) (fun s' h' => ?_) 8 0 s rfl h⟩
    rw [nI_1]
    exact ih (l + 1) s' (by omega) (zAl_n h')
theorem zx_aw {post : Int32 → Prop} {a : Nat} (hn : zn_Ok nx) (ha : a < 8) (H : ∀ s, zs_Is s (fun b => zAn (zS nx) (zPx fs) b a) → post s) : wpX_allowed post (lr, nx, ln, go, ng, tr, fs) (nI a) := by
  unfold wpX_allowed
  dsimp only
  exact ⟨4, zx_aw6 hn ha H 3 0 255 rfl zAl_0⟩
theorem zx_cf41 {post : SX → Prop} {J : Int32 → Int32 → (Nat → Int32) → (Nat → Int32) → (Nat → Int32) → (Nat → Int32) → (Nat → Int32) → (Nat → Int32) → Prop} {P0 : Nat → Nat → Prop} {x2 : Int32} (hn : zn_Ok nx) (H : ∀ x fm, (∀ a, a < 8 → zs_Sm (fm a)) → zV (zS nx) P0 (fun _ a => a < 8) x (zPx fm) → J x (x2 + 1) nx ln go ng tr fm) : ∀ d i x fm, i + d = 8 → (∀ a, a < 8 → zs_Sm (fm a)) → zV (zS nx) P0 (fun _ a => a < i) x (zPx fm) → wX_cutFollowers_41 post J x2 lr (d + 1) x (nI i) nx ln go ng tr fm := by
  intro d
  induction d with
  | zero =>
    intro i x fm hi hs h
    have e : i = 8 := by omega
    subst e
    exact br_t zk_8t (nm_e (H x fm hs h))
  | succ d ih =>
    intro i x fm hi hs h
    have hi8 : i < 8 := by omega
    have vi : vp_in (nI i) 8 := vp_in_nI (by omega) (by decide)
    refine br_f (zk_8f hi8) ⟨vi, zx_aw hn hi8 (fun r hr => ?_)⟩
    rw [nI_clamp (by omega)]
    refine nm_e ⟨vi, br_c (fun e => ?_) (fun e => ?_)⟩
    · unfold wX_cutFollowers_78
      refine nm_r (zs_or0 x) ⟨vi, ?_⟩
      rw [nI_clamp (by omega), e, zs_nar (hs i hi8)]
      refine nm_r zu_id (nm_r (nI_1 i) (ih (i + 1) x fm (by omega) hs (zV_k h (fun a b ha hb q q' p => ?_))))
      have ea : a = i := by omega
      subst ea
      have w : bt (fm a &&& r) b = true := by
        rw [e]
        exact p
      rw [b_and, Bool.and_eq_true] at w
      exact ((hr b).mp w.2).2
    · unfold wX_cutFollowers_78
      have sm : zs_Sm (fm i &&& r) := fun j hj => by rw [b_and, hs i hi8 j hj, Bool.false_and]
      have ex : ∃ b, bt (fm i) b = true ∧ ¬ bt r b = true := Classical.byContradiction fun w => e (by
        apply b_ext
        intro j _
        rw [b_and]
        cases y : bt (fm i) j
        · rfl
        · rw [Bool.true_and]
          exact Classical.byContradiction fun z => w ⟨j, y, z⟩)
      obtain ⟨b0, p0, n0⟩ := ex
      refine nm_r (zV_or h) ⟨vi, ?_⟩
      rw [nI_clamp (by omega), zs_nar sm]
      have up : ∀ a b, zPx (upd fm i (fm i &&& r)) b a ↔ (zPx fm b a ∧ (a = i → bt r b = true)) := fun a b => by
        unfold zPx
        by_cases ea : a = i
        · subst ea
          rw [pk_us, b_and, Bool.and_eq_true]
          exact ⟨fun w => ⟨w.1, fun _ => w.2⟩, fun w => ⟨w.1, w.2 rfl⟩⟩
        · rw [pk_un ea]
          exact ⟨fun w => ⟨w, fun z => absurd z ea⟩, fun w => w.1⟩
      refine nm_e (nm_r (nI_1 i) (ih (i + 1) 1 _ (by omega) (fun a ha => ?_) (zV_c h (fun a b _ _ w => ((up a b).mp w).1) (fun a b ha hb f => (up a b).mpr ⟨h.1 a b ha hb f, fun ea => ?_⟩) hi8 (zs_lt (hs i hi8) p0) p0 (fun w => n0 (((up i b0).mp w).2 rfl)))))
      · by_cases ea : a = i
        · subst ea; rw [pk_us]; exact sm
        · rw [pk_un ea]; exact hs a ha
      · subst ea
        exact (hr b).mpr ⟨hb, zF_an h.1 ha hb f⟩
theorem zx_cf27 {post : SX → Prop} (hn : zn_Ok nx) (H : ∀ fm, (∀ a, a < 8 → zs_Sm (fm a)) → (∀ a b, a < 8 → b < 8 → (zPx fm b a ↔ zF (zS nx) b a)) → post (lr, nx, ln, go, ng, tr, fm)) : ∀ d k x fm, k + d = 65 → (∀ a, a < 8 → zs_Sm (fm a)) → zW (zS nx) k x (zPx fm) → wX_cutFollowers_27 post lr (d + 1) x (nI k) nx ln go ng tr fm := by
  intro d
  induction d with
  | zero =>
    intro k x fm hk hs h
    have e : k = 65 := by omega
    subst e
    exact br_t (nI_le (a := 65) (Nat.le_refl 65) (by decide)) (H fm hs (zW_e h))
  | succ d ih =>
    intro k x fm hk hs h
    refine br_f (zk_65f (by omega)) ?_
    rcases h.2 with ⟨rfl, w⟩ | ⟨rfl, w⟩
    · exact br_t rfl (H fm hs (zF_eq h.1 w))
    · refine br_f zb_10 ⟨9, zx_cf41 (P0 := zPx fm) hn (fun x' fm' hs' hv => ?_) 8 0 0 fm rfl hs (zV_0 h.1 (fun a b => Nat.not_lt_zero a))⟩
      rw [nI_1]
      exact ih (k + 1) x' fm' (by omega) hs' (zW_s w hv (fun a b ha _ => ha))
theorem zx_cf2 {post : SX → Prop} (hn : zn_Ok nx) (H : ∀ fm, (∀ a, a < 8 → zs_Sm (fm a)) → (∀ a b, a < 8 → b < 8 → (zPx fm b a ↔ zF (zS nx) b a)) → post (lr, nx, ln, go, ng, tr, fm)) : ∀ d i fm, i + d = 8 → (∀ a, a < i → fm a = 255) → wX_cutFollowers_2 post lr (d + 1) (nI i) nx ln go ng tr fm := by
  intro d
  induction d with
  | zero =>
    intro i fm hi h
    have e : i = 8 := by omega
    subst e
    refine br_t zk_8t ⟨66, zx_cf27 hn H 65 0 1 fm rfl (fun a ha j hj => ?_) (zW_0 (fun a b ha hb _ => ?_))⟩
    · rw [h a ha, b_255, decide_eq_false (by omega)]
    · unfold zPx
      rw [h a ha, b_255, decide_eq_true hb]
  | succ d ih =>
    intro i fm hi h
    refine br_f (zk_8f (by omega)) ⟨vp_in_nI (by omega) (by decide), ?_⟩
    rw [nI_clamp (by omega), zs_255]
    exact nm_e (nm_r (nI_1 i) (ih (i + 1) _ (by omega) (zu_lt (P := fun a y => y = 255) h rfl)))
theorem zx_cf {post : SX → Prop} (hn : zn_Ok nx) (H : ∀ fm, (∀ a, a < 8 → zs_Sm (fm a)) → (∀ a b, a < 8 → b < 8 → (zPx fm b a ↔ zF (zS nx) b a)) → post (lr, nx, ln, go, ng, tr, fm)) : wpX_cutFollowers post (lr, nx, ln, go, ng, tr, fs) := by
  unfold wpX_cutFollowers
  dsimp only
  exact ⟨9, zx_cf2 hn H 8 0 fs rfl (fun a ha => absurd ha (Nat.not_lt_zero a))⟩
/-! reference -/
theorem zy_an56 {post : Int32 → Prop} {J : Int32 → Int32 → Prop} {a b l c : Nat} {x3 x6 : Int32} {P G : Prop} (hb : b < 8) (hl : l < 3) (hc : c < 24) (h3 : zFl x3 P) (h6 : zFl x6 G) (H : ∀ y, zFl y (P ∧ (G → ∃ d, d < 8 ∧ zS nx l b d ∧ zPy af d (c % 8))) → J y (nI (c + 1))) : ∀ n i x, i + n = 8 → zFl x (∃ d, d < i ∧ zS nx l b d ∧ zPy af d (c % 8)) → wY_answers_56 post J (nI b) (nI a) x3 (nI c) (nI l) x6 nx fa to ke af (n + 1) x (nI i) := by
  intro n
  induction n with
  | zero =>
    intro i x hi h
    have e : i = 8 := by omega
    subst e
    exact br_t zk_8t (zFl_br h3 (fun p => nm_r (nI_1 c) (H 0 (Or.inr ⟨rfl, fun w => p w.1⟩))) (fun p => zFl_br h6 (fun g => nm_r (nI_1 c) (H 1 (Or.inl ⟨rfl, p, fun z => absurd z g⟩))) (fun g => zFl_br h (fun f => nm_r (nI_1 c) (H 0 (Or.inr ⟨rfl, fun w => f (w.2 g)⟩))) (fun f => nm_r (nI_1 c) (H 1 (Or.inl ⟨rfl, p, fun _ => f⟩))))))
  | succ n ih =>
    intro i x hi h
    have hi8 : i < 8 := by omega
    have K0 : ¬ (∃ d, d < i ∧ zS nx l b d ∧ zPy af d (c % 8)) → ¬ (zS nx l b i ∧ zPy af i (c % 8)) → wY_answers_56 post J (nI b) (nI a) x3 (nI c) (nI l) x6 nx fa to ke af (n + 1) 0 (nI (i + 1)) := fun m m' =>
      ih (i + 1) 0 (by omega) (Or.inr ⟨rfl, fun ⟨d, hd, w⟩ => by
        rcases Nat.lt_or_ge d i with g | g
        · exact m ⟨d, g, w⟩
        · have e : d = i := by omega
          subst e
          exact m' w⟩)
    refine br_f (zk_8f hi8) ?_
    rw [zi_m (by omega), zi_y, zi_y, nI_clamp (n := 8 * l + b) (by omega), nI_clamp (n := 8 * i + c % 8) (by omega)]
    exact zFl_br h (fun m => ⟨vp_in_nI (by omega) (by decide), zb_br1 (by omega) (fun t => ⟨zi_80, vp_in_nI (by omega) (by decide), br_c (fun z => nm_r (nI_1 i) (K0 m (fun w => w.2 z))) (fun z => nm_r (nI_1 i) (ih (i + 1) 1 (by omega) (Or.inl ⟨rfl, i, Nat.lt_succ_self i, t, z⟩)))⟩) (fun f => nm_r (nI_1 i) (K0 m (fun w => absurd w.1 (Bool.eq_false_iff.mp f))))⟩) (fun m => nm_r (nI_1 i) (ih (i + 1) 1 (by omega) (Or.inl ⟨rfl, m.elim (fun d w => ⟨d, by omega, w.2⟩)⟩)))
def zAy (nx af : Nat → Int32) (b a c : Nat) : Prop := zS nx (c / 8) a (c % 8) → ∃ d, d < 8 ∧ zS nx (c / 8) b d ∧ zPy af d (c % 8)
theorem zAy_e {a b : Nat} : (∀ c, c < 24 → zAy nx af b a c) ↔ zAn (zS nx) (zPy af) b a := by
  constructor
  · intro h l c hl hc s
    have w := h (8 * l + c) (by omega)
    unfold zAy at w
    rw [show (8 * l + c) / 8 = l by omega, show (8 * l + c) % 8 = c by omega] at w
    exact w s
  · intro h c hc s
    exact h (c / 8) (c % 8) (by omega) (by omega) s
theorem zy_an5 {post : Int32 → Prop} {a b : Nat} (ha : a < 8) (hb : b < 8) (H : ∀ y, zFl y (zAn (zS nx) (zPy af) b a) → post y) : ∀ n i x, i + n = 24 → zFl x (∀ c, c < i → zAy nx af b a c) → wY_answers_5 post (nI b) (nI a) nx fa to ke af (n + 1) x (nI i) := by
  intro n
  induction n with
  | zero =>
    intro i x hi h
    have e : i = 24 := by omega
    subst e
    exact br_t zk_24t ⟨zFl_nar h, H x (zFl_c h zAy_e)⟩
  | succ n ih =>
    intro i x hi h
    have hl : i / 8 < 3 := by omega
    have hc : i < 24 := by omega
    have K : ∀ x6, zFl x6 (zS nx (i / 8) a (i % 8)) → ∃ m, wY_answers_56 post (wY_answers_5 post (nI b) (nI a) nx fa to ke af (n + 1)) (nI b) (nI a) x (nI i) (nI (i / 8)) x6 nx fa to ke af m 0 0 := fun x6 h6 =>
      ⟨9, zy_an56 hb hl hc h h6 (fun y hy => ih (i + 1) y (by omega) (zFl_c hy ⟨fun w => lt_s w.1 w.2, fun w => ⟨fun c q => w c (by omega), w i (by omega)⟩⟩)) 8 0 0 rfl (Or.inr ⟨rfl, fun ⟨d, hd, _⟩ => absurd hd (Nat.not_lt_zero d)⟩)⟩
    refine br_f (zk_24f hc) ⟨zi_80, nm_r (zi_d (by omega)) ?_⟩
    rw [zi_m (by omega), zi_y, nI_clamp (by omega)]
    exact ⟨vp_in_nI (by omega) (by decide), zi_80, zb_br1 (by omega) (fun t => K 1 (Or.inl ⟨rfl, t⟩)) (fun f => K 0 (Or.inr ⟨rfl, Bool.eq_false_iff.mp f⟩))⟩
theorem zy_an {post : Int32 → Prop} {a b : Nat} (ha : a < 8) (hb : b < 8) (H : ∀ y, zFl y (zAn (zS nx) (zPy af) b a) → post y) : wpY_answers post (nx, fa, to, ke, af) (nI b) (nI a) := by
  unfold wpY_answers
  dsimp only
  exact ⟨25, zy_an5 ha hb H 24 0 1 rfl (Or.inl ⟨rfl, fun c hc => absurd hc (Nat.not_lt_zero c)⟩)⟩
theorem zy_fo100 {post : SY → Prop} {J25 J39 : Int32 → Int32 → (Nat → Int32) → (Nat → Int32) → (Nat → Int32) → (Nat → Int32) → (Nat → Int32) → Prop} {c : Nat} {x1 x2 v : Int32} (hc : c < 64) (hx : x1 = 0 ∨ x1 = 1) (hv : vp_nar .boolean v = af c) (H : J39 x1 (nI (c + 1)) nx fa to ke af) : wY_follow_100 post J25 J39 x1 x2 (nI c) 0 v (nI c) nx fa to ke af := by
  unfold wY_follow_100
  rw [nI_clamp (by omega), hv]
  refine ⟨vp_in_nI (by omega) (by decide), nm_r zu_id ?_⟩
  rcases hx with rfl | rfl
  · exact br_t rfl (br_t rfl (nm_r (nI_1 c) H))
  · exact br_f zb_10 (nm_r (nI_1 c) H)
theorem zy_fo39 {post : SY → Prop} {J : Int32 → Int32 → (Nat → Int32) → (Nat → Int32) → (Nat → Int32) → (Nat → Int32) → (Nat → Int32) → Prop} {P0 : Nat → Nat → Prop} {x2 : Int32} (H : ∀ x am, (∀ c, c < 64 → (am c = 0 ∨ am c = 1)) → zV (zS nx) P0 (fun b a => 8 * b + a < 64) x (zPy am) → J x (x2 + 1) nx fa to ke am) : ∀ n c x am, c + n = 64 → (∀ c, c < 64 → (am c = 0 ∨ am c = 1)) → zV (zS nx) P0 (fun b a => 8 * b + a < c) x (zPy am) → wY_follow_39 post J x2 (n + 1) x (nI c) nx fa to ke am := by
  intro n
  induction n with
  | zero =>
    intro c x am hc hB h
    have e : c = 64 := by omega
    subst e
    exact br_t zk_64t (nm_e (H x am hB h))
  | succ n ih =>
    intro c x am hc hB h
    have hc64 : c < 64 := by omega
    have h1 : c / 8 < 8 := by omega
    have h2 : c % 8 < 8 := by omega
    have vc : vp_in (nI c) 64 := vp_in_nI (by omega) (by decide)
    have pc : zPy am (c / 8) (c % 8) ↔ ¬ am c = 0 := by
      unfold zPy
      rw [show 8 * (c / 8) + c % 8 = c by omega]
    have keep : (zPy am (c / 8) (c % 8) → zAn (zS nx) (zPy am) (c / 8) (c % 8)) → wY_follow_39 post J x2 (n + 1) x (nI (c + 1)) nx fa to ke am := fun w =>
      ih (c + 1) x am (by omega) hB (zV_k h (fun a b ha hb q q' p => by
        have e1 : b = c / 8 := by omega
        have e2 : a = c % 8 := by omega
        subst e1 e2
        exact w p))
    refine br_f (zk_64f hc64) ⟨vc, ?_⟩
    rw [nI_clamp (by omega), zi_m (by omega), zi_d (by omega)]
    refine br_c (fun z => ?_) (fun z => ⟨zi_80, zi_80, zy_an h2 h1 (fun y hy => zFl_br hy (fun q => ?_) (fun q => ?_))⟩)
    · unfold wY_follow_73 wY_follow_74 wY_follow_99
      rw [nI_clamp (by omega)]
      exact ⟨vc, br_t z (zy_fo100 hc64 (zV_01 h) z.symm (keep (fun w => absurd z (pc.mp w))))⟩
    · unfold wY_follow_74 wY_follow_99 wY_follow_100
      rw [nI_clamp (by omega)]
      refine ⟨vc, br_f z (br_f zb_10 ⟨vc, ?_⟩)⟩
      have up : ∀ a b, a < 8 → b < 8 → (zPy (upd am c 0) b a ↔ (zPy am b a ∧ 8 * b + a ≠ c)) := fun a b ha hb => by
        unfold zPy
        by_cases e : 8 * b + a = c
        · rw [e, pk_us]
          exact ⟨fun w => absurd rfl w, fun w => absurd rfl w.2⟩
        · rw [pk_un e]
          exact ⟨fun w => ⟨w, e⟩, fun w => w.1⟩
      have G : wY_follow_39 post J x2 (n + 1) 1 (nI (c + 1)) nx fa to ke (upd am c 0) := by
        refine ih (c + 1) 1 _ (by omega) (fun c' hc' => ?_) (zV_c h (fun a b ha hb w => ((up a b ha hb).mp w).1) (fun a b ha hb f => (up a b ha hb).mpr ⟨h.1 a b ha hb f, fun e => q ?_⟩) h2 h1 (pc.mpr z) (fun w => ((up _ _ h2 h1).mp w).2 (by omega)))
        · by_cases e : c' = c
          · subst e; rw [pk_us]; exact Or.inl rfl
          · rw [pk_un e]; exact hB c' hc'
        · have e1 : b = c / 8 := by omega
          have e2 : a = c % 8 := by omega
          subst e1 e2
          exact zF_an h.1 ha hb f
      exact nm_r (show upd am c (vp_nar .boolean 0) = upd am c 0 from rfl) (br_c (fun _ => br_f zb_10 (nm_r (nI_1 c) G)) (fun _ => nm_r (nI_1 c) G))
    · unfold wY_follow_73 wY_follow_74
      rw [nI_clamp (by omega)]
      exact ⟨vc, br_f z (br_t rfl (zy_fo100 hc64 (zV_01 h) ((hB c hc64).elim (fun w => absurd w z) (fun w => w.symm)) (keep (fun _ => q))))⟩
theorem zy_fo25 {post : SY → Prop} (H : ∀ am, (∀ a b, a < 8 → b < 8 → (zPy am b a ↔ zF (zS nx) b a)) → post (nx, fa, to, ke, am)) : ∀ d k x am, k + d = 65 → (∀ c, c < 64 → (am c = 0 ∨ am c = 1)) → zW (zS nx) k x (zPy am) → wY_follow_25 post (d + 1) x (nI k) nx fa to ke am := by
  intro d
  induction d with
  | zero =>
    intro k x am hk hB h
    have e : k = 65 := by omega
    subst e
    exact br_t (nI_le (a := 65) (Nat.le_refl 65) (by decide)) (H am (zW_e h))
  | succ d ih =>
    intro k x am hk hB h
    refine br_f (zk_65f (by omega)) ?_
    rcases h.2 with ⟨rfl, w⟩ | ⟨rfl, w⟩
    · exact br_t rfl (H am (zF_eq h.1 w))
    · refine br_f zb_10 ⟨65, zy_fo39 (P0 := zPy am) (fun x' am' hB' hv => ?_) 64 0 0 am rfl hB (zV_0 h.1 (fun a b => Nat.not_lt_zero _))⟩
      rw [nI_1]
      exact ih (k + 1) x' am' (by omega) hB' (zW_s w hv (fun a b ha hb => by omega))
theorem zy_fo2 {post : SY → Prop} (H : ∀ am, (∀ a b, a < 8 → b < 8 → (zPy am b a ↔ zF (zS nx) b a)) → post (nx, fa, to, ke, am)) : ∀ d i am, i + d = 64 → (∀ c, c < i → am c = 1) → wY_follow_2 post (d + 1) (nI i) nx fa to ke am := by
  intro d
  induction d with
  | zero =>
    intro i am hi h
    have e : i = 64 := by omega
    subst e
    refine br_t zk_64t ⟨66, zy_fo25 H 65 0 1 am rfl (fun c hc => Or.inr (h c hc)) (zW_0 (fun a b ha hb _ => ?_))⟩
    unfold zPy
    rw [h (8 * b + a) (by omega)]
    exact zb_10
  | succ d ih =>
    intro i am hi h
    refine br_f (zk_64f (by omega)) ⟨vp_in_nI (by omega) (by decide), ?_⟩
    rw [nI_clamp (by omega)]
    exact nm_e (nm_r (nI_1 i) (ih (i + 1) _ (by omega) (zu_lt (P := fun a y => y = 1) h rfl)))
theorem zy_fo {post : SY → Prop} (H : ∀ am, (∀ a b, a < 8 → b < 8 → (zPy am b a ↔ zF (zS nx) b a)) → post (nx, fa, to, ke, am)) : wpY_follow post (nx, fa, to, ke, af) := by
  unfold wpY_follow
  dsimp only
  exact ⟨65, zy_fo2 H 64 0 af rfl (fun a ha => absurd ha (Nat.not_lt_zero a))⟩
/-! answers -/
theorem zx_fw {post : Int32 → SX → Prop} {a b : Nat} (hn : zn_Ok nx) (ha : a < 8) (hb : b < 8) (H : ∀ fm x, zFl x (zF (zS nx) b a) → post x (lr, nx, ln, go, ng, tr, fm)) : wpX_follows post (lr, nx, ln, go, ng, tr, fs) (nI b) (nI a) := by
  unfold wpX_follows
  dsimp only
  refine zx_st1 ha (br_f zb_10 (zx_st1 hb (br_f zb_10 (zx_cf hn (fun fm hs hf => ?_)))))
  dsimp only
  rw [nI_clamp (by omega)]
  exact ⟨vp_in_nI (by omega) (by decide), zx_in (by omega) (fun f => ⟨rfl, H fm 0 (Or.inr ⟨rfl, fun w => absurd ((hf a b ha hb).mpr w) (Bool.eq_false_iff.mp f)⟩)⟩) (fun t => ⟨rfl, H fm 1 (Or.inl ⟨rfl, (hf a b ha hb).mp t⟩)⟩)⟩
theorem zx_fw0 {post : Int32 → SX → Prop} {p0 p1 : Int32} (h : ¬ (zQ 8 p1 ∧ zQ 8 p0)) (H : post 0 (lr, nx, ln, go, ng, tr, fs)) : wpX_follows post (lr, nx, ln, go, ng, tr, fs) p0 p1 := by
  unfold wpX_follows
  dsimp only
  rcases Classical.em (zQ 8 p1) with h0 | h0
  · obtain ⟨a, ha, rfl⟩ := h0
    exact zx_st1 ha (br_f zb_10 (zx_st0 (fun z => h ⟨⟨a, ha, rfl⟩, z⟩) (br_t rfl H)))
  · exact zx_st0 h0 (br_t rfl H)
theorem zy_fw {post : Int32 → SY → Prop} {a b : Nat} (ha : a < 8) (hb : b < 8) (H : ∀ am x, zFl x (zF (zS nx) b a) → post x (nx, fa, to, ke, am)) : wpY_follows post (nx, fa, to, ke, af) (nI b) (nI a) := by
  unfold wpY_follows
  dsimp only
  refine zy_fo (fun am hf => ?_)
  refine zy_st1 ha (br_f zb_10 (zy_st1 hb (br_f zb_10 ?_)))
  rw [zi_y, nI_clamp (by omega)]
  exact ⟨vp_in_nI (by omega) (by decide), br_c (fun z => H am 0 (Or.inr ⟨rfl, fun w => absurd z ((hf a b ha hb).mpr w)⟩)) (fun z => H am 1 (Or.inl ⟨rfl, (hf a b ha hb).mp z⟩))⟩
theorem zy_fw0 {post : Int32 → SY → Prop} {p0 p1 : Int32} (h : ¬ (zQ 8 p1 ∧ zQ 8 p0)) (H : ∀ am, post 0 (nx, fa, to, ke, am)) : wpY_follows post (nx, fa, to, ke, af) p0 p1 := by
  unfold wpY_follows
  dsimp only
  refine zy_fo (fun am hf => ?_)
  rcases Classical.em (zQ 8 p1) with h0 | h0
  · obtain ⟨a, ha, rfl⟩ := h0
    exact zy_st1 ha (br_f zb_10 (zy_st0 (fun z => h ⟨⟨a, ha, rfl⟩, z⟩) (br_t rfl (H am))))
  · exact zy_st0 h0 (br_t rfl (H am))
theorem zx_fs {post : Int32 → SX → Prop} {a : Nat} (hn : zn_Ok nx) (ha : a < 8) (H : ∀ fm x, zs_Is x (fun b => zF (zS nx) b a) → post x (lr, nx, ln, go, ng, tr, fm)) : wpX_followers post (lr, nx, ln, go, ng, tr, fs) (nI a) := by
  unfold wpX_followers
  dsimp only
  refine zx_st1 ha (br_f zb_10 (zx_cf hn (fun fm hs hf => ?_)))
  dsimp only
  rw [nI_clamp (by omega)]
  exact ⟨vp_in_nI (by omega) (by decide), H fm _ (fun j => ⟨fun w => ⟨zs_lt (hs a ha) w, (hf a j ha (zs_lt (hs a ha) w)).mp w⟩, fun w => (hf a j ha w.1).mpr w.2⟩)⟩
theorem zy_fs8 {post : Int32 → SY → Prop} {a : Nat} (ha : a < 8) (hf : ∀ a b, a < 8 → b < 8 → (zPy af b a ↔ zF (zS nx) b a)) (H : ∀ x, zs_Is x (fun b => zF (zS nx) b a) → post x (nx, fa, to, ke, af)) : ∀ d i s, i + d = 8 → zo_I (fun b => zF (zS nx) b a) (fun b j => j = b) i s → wY_followers_8 post (nI a) nx fa to ke af (d + 1) s (nI i) := by
  intro d
  induction d with
  | zero =>
    intro i s hi h
    have e : i = 8 := by omega
    subst e
    exact br_t zk_8t (H s (zo_own h))
  | succ d ih =>
    intro i s hi h
    have hi8 : i < 8 := by omega
    refine br_f (zk_8f hi8) (zy_st1 ha (br_f zb_10 ?_))
    rw [zi_y, nI_clamp (by omega)]
    exact ⟨vp_in_nI (by omega) (by decide), br_c (fun z => nm_r (nI_1 i) (ih (i + 1) s (by omega) (zo_f h (fun w => absurd z ((hf a i ha hi8).mpr w))))) (fun z => nm_e (nm_r (nI_1 i) (ih (i + 1) _ (by omega) (zo_t h ((hf a i ha hi8).mp z) (fun j => zb_sht (by omega) j)))))⟩
theorem zy_fs {post : Int32 → SY → Prop} {a : Nat} (ha : a < 8) (H : ∀ am x, zs_Is x (fun b => zF (zS nx) b a) → post x (nx, fa, to, ke, am)) : wpY_followers post (nx, fa, to, ke, af) (nI a) := by
  unfold wpY_followers
  dsimp only
  refine zy_fo (fun am hf => ?_)
  exact ⟨9, zy_fs8 ha hf (fun x hx => H am x hx) 8 0 0 rfl zo_0⟩
theorem zy_fs0 {post : Int32 → SY → Prop} {p0 : Int32} (h : ¬ zQ 8 p0) (H : ∀ am, post 0 (nx, fa, to, ke, am)) : wpY_followers post (nx, fa, to, ke, af) p0 := by
  unfold wpY_followers
  dsimp only
  refine zy_fo (fun am hf => ?_)
  exact ⟨1, br_f (zk_8f (i := 0) (by decide)) (zy_st0 h (br_t rfl (H am)))⟩
theorem zx_fs0 {post : Int32 → SX → Prop} {p0 : Int32} (h : ¬ zQ 8 p0) (H : post 0 (lr, nx, ln, go, ng, tr, fs)) : wpX_followers post (lr, nx, ln, go, ng, tr, fs) p0 := by
  unfold wpX_followers
  dsimp only
  exact zx_st0 h (br_t rfl H)
end
theorem i_vc_follows {k : Nat} {u : SX} {v : SY} (I : i_Rel k u v) (hk : k + 4 ≤ 2048) (v1 : Int32) (v2 : Int32) : wpX_follows (fun r u' => wpY_follows (fun r' v' => r' = r ∧ i_Rel (k + 4) u' v') v v1 v2) u v1 v2 := by
  refine zr_e (k := k) (P := fun u v => wpX_follows (fun r u' => wpY_follows (fun r' v' => r' = r ∧ i_Rel (k + 4) u' v') v v1 v2) u v1 v2) ?_ I
  intro lr nx ln go ng tr fs fa to ke af hn
  rcases Classical.em (zQ 8 v2 ∧ zQ 8 v1) with h | h
  · obtain ⟨⟨a, ha, rfl⟩, ⟨b, hb, rfl⟩⟩ := h
    exact zx_fw hn ha hb (fun fm x hx => zy_fw ha hb (fun am x' hx' => ⟨zFl_uq hx' hx Iff.rfl, zr_i hn⟩))
  · exact zx_fw0 h (zy_fw0 h (fun am => ⟨rfl, zr_i hn⟩))
theorem i_vc_followers {k : Nat} {u : SX} {v : SY} (I : i_Rel k u v) (hk : k + 4 ≤ 2048) (v1 : Int32) : wpX_followers (fun r u' => wpY_followers (fun r' v' => r' = r ∧ i_Rel (k + 4) u' v') v v1) u v1 := by
  refine zr_e (k := k) (P := fun u v => wpX_followers (fun r u' => wpY_followers (fun r' v' => r' = r ∧ i_Rel (k + 4) u' v') v v1) u v1) ?_ I
  intro lr nx ln go ng tr fs fa to ke af hn
  rcases Classical.em (zQ 8 v1) with h | h
  · obtain ⟨a, ha, rfl⟩ := h
    exact zx_fs hn ha (fun fm x hx => zy_fs ha (fun am x' hx' => ⟨zs_uq hx' hx (fun _ _ => Iff.rfl), zr_i hn⟩))
  · exact zx_fs0 h (zy_fs0 h (fun am => ⟨rfl, zr_i hn⟩))
end
section
/-! idle -/
def zw (g : Nat → Nat) : Nat → Nat
  | 0 => 0
  | n + 1 => zw g n * 8 + g n
theorem zw_lt {g : Nat → Nat} : ∀ n, (∀ i, i < n → g i < 8) → zw g n < 8 ^ n
  | 0, _ => Nat.zero_lt_one
  | n + 1, h => by
    have a := zw_lt n (fun i hi => h i (by omega))
    have b := h n (by omega)
    show zw g n * 8 + g n < 8 ^ (n + 1)
    rw [Nat.pow_succ]
    omega
theorem zw_eq {g h : Nat → Nat} : ∀ n, (∀ i, i < n → g i = h i) → zw g n = zw h n
  | 0, _ => rfl
  | n + 1, e => by
    show zw g n * 8 + g n = zw h n * 8 + h n
    rw [zw_eq n (fun i hi => e i (by omega)), e n (by omega)]
theorem zw_inj {g h : Nat → Nat} : ∀ n, (∀ i, i < n → g i < 8) → (∀ i, i < n → h i < 8) → zw g n = zw h n → ∀ i, i < n → g i = h i
  | 0, _, _, _ => fun i hi => absurd hi (Nat.not_lt_zero i)
  | n + 1, hg, hh, e => by
    have e' : zw g n * 8 + g n = zw h n * 8 + h n := e
    have a := hg n (by omega)
    have b := hh n (by omega)
    have ih := zw_inj n (fun i hi => hg i (by omega)) (fun i hi => hh i (by omega)) (by omega)
    exact lt_s ih (by omega)
theorem zw_E {S1 S2 : Nat → Nat → Nat → Prop} {k1 k2 : Nat} {g1 g2 : Nat → Int32} (h1 : zG (zE S1 k1) 8 g1) (h2 : zG (zE S2 k2) 8 g2) : lN (zw (fun i => (g1 i).toNatClampNeg) 8) = lN (zw (fun i => (g2 i).toNatClampNeg) 8) ↔ ∀ a b, a < 8 → b < 8 → (zE S1 k1 a b ↔ zE S2 k2 a b) := by
  have d1 : ∀ i, i < 8 → (g1 i).toNatClampNeg < 8 := fun i hi => by
    obtain ⟨g, hg, e, _⟩ := h1 i hi
    rw [e, nI_clamp (by omega)]
    omega
  have d2 : ∀ i, i < 8 → (g2 i).toNatClampNeg < 8 := fun i hi => by
    obtain ⟨g, hg, e, _⟩ := h2 i hi
    rw [e, nI_clamp (by omega)]
    omega
  have w1 := zw_lt 8 d1
  have w2 := zw_lt 8 d2
  rw [pk_lEQ (Nat.lt_trans w1 (by decide)) (Nat.lt_trans w2 (by decide))]
  constructor
  · intro e a b ha hb
    have q : ∀ i, i < 8 → g1 i = g2 i := fun i hi => by
      have y := zw_inj 8 d1 d2 e i hi
      obtain ⟨g, hg, eg, _⟩ := h1 i hi
      obtain ⟨g', hg', eg', _⟩ := h2 i hi
      have y' : (g1 i).toNatClampNeg = (g2 i).toNatClampNeg := y
      rw [eg, eg', nI_clamp (by omega), nI_clamp (by omega)] at y'
      rw [eg, eg', y']
    rw [← zG_e h1 (Nat.le_refl 8) ha hb, ← zG_e h2 (Nat.le_refl 8) ha hb, q a ha, q b hb]
  · intro e
    refine zw_eq 8 (fun i hi => ?_)
    obtain ⟨g, hg, eg, m, s⟩ := h1 i hi
    obtain ⟨g', hg', eg', m', s'⟩ := h2 i hi
    have z : g = g' := by
      rcases Nat.lt_or_ge g g' with y | y
      · exact absurd ((e i g hi (by omega)).mp m) (s' g y)
      · rcases Nat.lt_or_ge g' g with y' | y'
        · exact absurd ((e i g' hi (by omega)).mpr m') (s g' y')
        · omega
    show (g1 i).toNatClampNeg = (g2 i).toNatClampNeg
    rw [eg, eg', z]
section
variable {lr : Int32} {nx ln go ng tr fs fa to ke af : Nat → Int32}
theorem zx_wr4 {post : Int64 → Prop} {E : Nat → Nat → Prop} (hg : zG E 8 go) (H : post (lN (zw (fun i => (go i).toNatClampNeg) 8))) : ∀ d i, i + d = 8 → wX_written_4 post lr nx ln go ng tr fs (d + 1) (lN (zw (fun i => (go i).toNatClampNeg) i)) (nI i) := by
  intro d
  induction d with
  | zero =>
    intro i hi
    have e : i = 8 := by omega
    subst e
    exact br_t zk_8t H
  | succ d ih =>
    intro i hi
    obtain ⟨g, hgi, eg, _⟩ := hg i (by omega)
    have q : (go i).toInt64 = lN ((go i).toNatClampNeg) := by rw [eg, nI_l (by omega), nI_clamp (by omega)]
    refine br_f (zk_8f (by omega)) ⟨vp_in_nI (by omega) (by decide), ?_⟩
    rw [nI_clamp (by omega), q]
    refine nm_r ?_ (nm_r (nI_1 i) (ih (i + 1) (by omega)))
    show lN (zw (fun i => (go i).toNatClampNeg) i) * lN 8 + lN ((go i).toNatClampNeg) = lN (zw (fun i => (go i).toNatClampNeg) i * 8 + (go i).toNatClampNeg)
    rw [lN_mul, lN_add]
theorem zx_wr {post : Int64 → Prop} {E : Nat → Nat → Prop} (hg : zG E 8 go) (H : post (lN (zw (fun i => (go i).toNatClampNeg) 8))) : wpX_written post (lr, nx, ln, go, ng, tr, fs) := by
  unfold wpX_written
  dsimp only
  exact ⟨9, zx_wr4 hg H 8 0 rfl⟩
theorem zx_id {post : Int32 → SX → Prop} {nx1 nx2 : Nat → Int32} {a b l R1 R2 : Nat} (hn : zn_Ok nx) (hn1 : zn_Ok nx1) (ha : a < 8) (hb : b < 8) (hl : l < 3) (hs : zS nx l a b) (hR1 : zR (zS nx) R1) (hR2 : zR (zS nx1) R2) (e1 : upd nx (8 * l + a) (nx (8 * l + a) ^^^ ((1 : Int32) <<< (nI b &&& 31))) = nx1) (e2 : upd nx1 (8 * l + a) (nx1 (8 * l + a) ^^^ ((1 : Int32) <<< (nI b &&& 31))) = nx2) (H : ∀ gm nm t x, zFl x (∀ a b, a < 8 → b < 8 → (zE (zS nx) (R1 + 1) a b ↔ zE (zS nx1) (R2 + 1) a b)) → post x (nI R2, nx2, ln, gm, nm, t, fs)) : wpX_idle post (lr, nx, ln, go, ng, tr, fs) (nI a) (nI b) (nI l) := by
  unfold wpX_idle
  dsimp only
  refine zx_sp1 ha hb hl (br_f zb_10 (zx_hsb ha hb hl (fun n => absurd hs n) (fun _ => zx_div hR1 (Or.inl ⟨rfl, rfl⟩) (zRp_own hn) (fun g1 n1 t1 hg1 ht1 => ?_))))
  dsimp only
  refine zx_wr hg1 (zx_turn ha hb hl hn ?_)
  dsimp only
  rw [e1]
  refine zx_div hR2 (Or.inl ⟨rfl, rfl⟩) (zRp_own hn1) (fun g2 n2 t2 hg2 ht2 => ?_)
  dsimp only
  refine zx_wr hg2 (zx_turn ha hb hl hn1 ?_)
  dsimp only
  rw [e2]
  exact br_c (fun e => H g2 n2 t2 1 (Or.inl ⟨rfl, (zw_E hg1 hg2).mp e⟩)) (fun e => H g2 n2 t2 0 (Or.inr ⟨rfl, fun w => e ((zw_E hg1 hg2).mpr w)⟩))
theorem zx_id0 {post : Int32 → SX → Prop} {p0 p1 p2 : Int32} (h : ¬ zQs p0 p1 p2) (H : post 0 (lr, nx, ln, go, ng, tr, fs)) : wpX_idle post (lr, nx, ln, go, ng, tr, fs) p0 p1 p2 := by
  unfold wpX_idle
  dsimp only
  exact zx_sp0 h (br_t rfl H)
theorem zx_idn {post : Int32 → SX → Prop} {a b l : Nat} (ha : a < 8) (hb : b < 8) (hl : l < 3) (hs : ¬ zS nx l a b) (H : post 0 (lr, nx, ln, go, ng, tr, fs)) : wpX_idle post (lr, nx, ln, go, ng, tr, fs) (nI a) (nI b) (nI l) := by
  unfold wpX_idle
  dsimp only
  exact zx_sp1 ha hb hl (br_f zb_10 (zx_hsb ha hb hl (fun _ => H) (fun t => absurd t hs)))
/-! reference -/
theorem zy_id72 {post : Int32 → SY → Prop} {A B : Nat → Prop} (hA : ∀ c, c < 64 → (0 ≤ ke c ↔ ¬ A c)) (hB : ∀ c, c < 64 → (0 ≤ to c ↔ ¬ B c)) (H : ∀ x, zFl x (∀ c, c < 64 → (A c ↔ B c)) → post x (nx, fa, to, ke, af)) : ∀ n i x, i + n = 64 → zFl x (∀ c, c < i → (A c ↔ B c)) → wY_idle_72 post nx fa to ke af (n + 1) x (nI i) := by
  intro n
  induction n with
  | zero =>
    intro i x hi h
    have e : i = 64 := by omega
    subst e
    exact br_t zk_64t ⟨zFl_nar h, H x h⟩
  | succ n ih =>
    intro i x hi h
    have hi64 : i < 64 := by omega
    have vi : vp_in (nI i) 64 := vp_in_nI (by omega) (by decide)
    have K1 : (∀ c, c < i → (A c ↔ B c)) → (A i ↔ B i) → wY_idle_72 post nx fa to ke af (n + 1) 1 (nI (i + 1)) := fun w e => ih (i + 1) 1 (by omega) (Or.inl ⟨rfl, lt_s w e⟩)
    have K0 : ¬ (A i ↔ B i) → wY_idle_72 post nx fa to ke af (n + 1) 0 (nI (i + 1)) := fun e => ih (i + 1) 0 (by omega) (Or.inr ⟨rfl, fun w => e (w i (by omega))⟩)
    have a1 := hA i hi64
    have b1 := hB i hi64
    have z10 : ¬ (1 : Int32) = 0 := zb_10
    have z01 : ¬ (0 : Int32) = 1 := by decide
    refine br_f (zk_64f hi64) (zFl_br h (fun m => nm_r (nI_1 i) (ih (i + 1) 0 (by omega) (Or.inr ⟨rfl, fun w => m (fun c hc => w c (by omega))⟩))) (fun m => ⟨vi, ?_⟩))
    unfold wY_idle_99 wY_idle_114
    rw [nI_clamp (by omega)]
    refine br_c (fun p => ⟨vi, br_c (fun q => br_t rfl (nm_r (nI_1 i) (K1 m ?_))) (fun q => br_f z01 (nm_r (nI_1 i) (K0 ?_)))⟩) (fun p => ⟨vi, br_c (fun q => br_f z10 (nm_r (nI_1 i) (K0 ?_))) (fun q => br_t rfl (nm_r (nI_1 i) (K1 m ?_)))⟩)
    · exact ⟨fun w => absurd w (a1.mp p), fun w => absurd w (b1.mp q)⟩
    · exact fun w => q (b1.mpr (fun y => a1.mp p (w.mpr y)))
    · exact fun w => p (a1.mpr (fun y => b1.mp q (w.mp y)))
    · exact ⟨fun _ => Classical.byContradiction fun y => q (b1.mpr y), fun _ => Classical.byContradiction fun y => p (a1.mpr y)⟩
theorem zE_pairs {E1 E2 : Nat → Nat → Prop} : (∀ c, c < 64 → (E1 (c / 8) (c % 8) ↔ E2 (c / 8) (c % 8))) ↔ (∀ a b, a < 8 → b < 8 → (E1 a b ↔ E2 a b)) := by
  constructor
  · intro h a b ha hb
    have w := h (8 * a + b) (by omega)
    rw [show (8 * a + b) / 8 = a by omega, show (8 * a + b) % 8 = b by omega] at w
    exact w
  · intro h c hc
    exact h (c / 8) (c % 8) (by omega) (by omega)
theorem zy_id19 {post : Int32 → SY → Prop} {nx1 nx2 : Nat → Int32} {a b l R1 R2 : Nat} (hn1 : zn_Ok nx1) (ha : a < 8) (hb : b < 8) (hl : l < 3) (hs : zS nx l a b) (hR1 : zR (zS nx) R1) (hR2 : zR (zS nx1) R2) (ht : zTs (zS nx) (R1 + 1) to) (e1 : upd nx (8 * l + a) (nx (8 * l + a) &&& (((1 : Int32) <<< (nI b &&& 31)) ^^^ (-1))) = nx1) (e2 : upd nx1 (8 * l + a) (nx1 (8 * l + a) ||| ((1 : Int32) <<< (nI b &&& 31))) = nx2) (H : ∀ fm t kk x, zFl x (∀ a b, a < 8 → b < 8 → (zE (zS nx) (R1 + 1) a b ↔ zE (zS nx1) (R2 + 1) a b)) → post x (nx2, fm, t, kk, af)) : ∀ n i kk, i + n = 64 → (∀ c, c < i → kk c = to c) → wY_idle_19 post (nI a) (nI b) (nI l) (n + 1) (nI i) nx fa to kk af := by
  intro n
  induction n with
  | zero =>
    intro i kk hi h
    have e : i = 64 := by omega
    subst e
    refine br_t zk_64t (zy_cut1 ha hb hl hs ?_)
    dsimp only
    rw [e1]
    refine zy_ts hn1 hR2 (fun fm t ht2 => ?_)
    dsimp only
    refine zy_join1 ha hb hl ?_
    dsimp only
    rw [e2]
    refine ⟨65, zy_id72 (A := fun c => zE (zS nx) (R1 + 1) (c / 8) (c % 8)) (B := fun c => zE (zS nx1) (R2 + 1) (c / 8) (c % 8)) (fun c hc => ?_) (fun c hc => zTv_p (ht2 c hc) (zR_100 hR2)) (fun x hx => H fm t kk x (zFl_c hx zE_pairs)) 64 0 1 rfl (Or.inl ⟨rfl, fun c hc => absurd hc (Nat.not_lt_zero c)⟩)⟩
    rw [h c hc]
    exact zTv_p (ht c hc) (zR_100 hR1)
  | succ n ih =>
    intro i kk hi h
    have vi : vp_in (nI i) 64 := vp_in_nI (by omega) (by decide)
    refine br_f (zk_64f (by omega)) ⟨vi, vi, ?_⟩
    rw [nI_clamp (by omega)]
    exact nm_e (nm_r (nI_1 i) (ih (i + 1) _ (by omega) (zu_lt (P := fun c y => y = to c) h rfl)))
theorem zy_id {post : Int32 → SY → Prop} {nx1 nx2 : Nat → Int32} {a b l R1 R2 : Nat} (hn : zn_Ok nx) (hn1 : zn_Ok nx1) (ha : a < 8) (hb : b < 8) (hl : l < 3) (hs : zS nx l a b) (hR1 : zR (zS nx) R1) (hR2 : zR (zS nx1) R2) (e1 : upd nx (8 * l + a) (nx (8 * l + a) &&& (((1 : Int32) <<< (nI b &&& 31)) ^^^ (-1))) = nx1) (e2 : upd nx1 (8 * l + a) (nx1 (8 * l + a) ||| ((1 : Int32) <<< (nI b &&& 31))) = nx2) (H : ∀ fm t kk x, zFl x (∀ a b, a < 8 → b < 8 → (zE (zS nx) (R1 + 1) a b ↔ zE (zS nx1) (R2 + 1) a b)) → post x (nx2, fm, t, kk, af)) : wpY_idle post (nx, fa, to, ke, af) (nI a) (nI b) (nI l) := by
  unfold wpY_idle
  dsimp only
  refine zy_step1 ha hb hl (fun _ => br_f zb_10 (zy_ts hn hR1 (fun fm t ht => ?_))) (fun n => absurd hs n)
  dsimp only
  exact ⟨65, zy_id19 hn1 ha hb hl hs hR1 hR2 ht e1 e2 H 64 0 ke rfl (fun c hc => absurd hc (Nat.not_lt_zero c))⟩
theorem zy_id0 {post : Int32 → SY → Prop} {p0 p1 p2 : Int32} (h : ¬ zQs p0 p1 p2) (H : post 0 (nx, fa, to, ke, af)) : wpY_idle post (nx, fa, to, ke, af) p0 p1 p2 := by
  unfold wpY_idle
  dsimp only
  exact zy_step0 h (br_t rfl H)
theorem zy_idn {post : Int32 → SY → Prop} {a b l : Nat} (ha : a < 8) (hb : b < 8) (hl : l < 3) (hs : ¬ zS nx l a b) (H : post 0 (nx, fa, to, ke, af)) : wpY_idle post (nx, fa, to, ke, af) (nI a) (nI b) (nI l) := by
  unfold wpY_idle
  dsimp only
  exact zy_step1 ha hb hl (fun t => absurd t hs) (fun _ => br_t rfl H)
end
theorem i_vc_idle {k : Nat} {u : SX} {v : SY} (I : i_Rel k u v) (hk : k + 4 ≤ 2048) (v1 : Int32) (v2 : Int32) (v3 : Int32) : wpX_idle (fun r u' => wpY_idle (fun r' v' => r' = r ∧ i_Rel (k + 4) u' v') v v1 v2 v3) u v1 v2 v3 := by
  refine zr_e (k := k) (P := fun u v => wpX_idle (fun r u' => wpY_idle (fun r' v' => r' = r ∧ i_Rel (k + 4) u' v') v v1 v2 v3) u v1 v2 v3) ?_ I
  intro lr nx ln go ng tr fs fa to ke af hn
  rcases Classical.em (zQs v1 v2 v3) with h | h
  · obtain ⟨⟨a, ha, rfl⟩, ⟨b, hb, rfl⟩, ⟨l, hl, rfl⟩⟩ := h
    rcases Classical.em (zS nx l a b) with hs | hs
    · have t : bt (nx (8 * l + a)) b = true := hs
      obtain ⟨nx1, e1⟩ : ∃ nx1, upd nx (8 * l + a) (nx (8 * l + a) ^^^ ((1 : Int32) <<< (nI b &&& 31))) = nx1 := ⟨_, rfl⟩
      obtain ⟨nx2, e2⟩ : ∃ nx2, upd nx1 (8 * l + a) (nx1 (8 * l + a) ^^^ ((1 : Int32) <<< (nI b &&& 31))) = nx2 := ⟨_, rfl⟩
      have hn1 : zn_Ok nx1 := by
        rw [← e1]
        exact zn_up hn (zt_sm hb (hn _ (by omega)))
      have hn2 : zn_Ok nx2 := by
        rw [← e2]
        exact zn_up hn1 (zt_sm hb (hn1 _ (by omega)))
      have f : bt (nx1 (8 * l + a)) b = false := by
        rw [← e1, pk_us, b_xor, t, zb_sh (by omega), decide_eq_true rfl]
        rfl
      have e1' := e1
      rw [zb_xorT (by omega) t] at e1'
      have e2' := e2
      rw [zb_xorF (by omega) f] at e2'
      obtain ⟨R1, hR1⟩ := zR_ex (zS nx)
      obtain ⟨R2, hR2⟩ := zR_ex (zS nx1)
      exact zx_id hn hn1 ha hb hl hs hR1 hR2 e1 e2 (fun gm nm t x hx => zy_id hn hn1 ha hb hl hs hR1 hR2 e1' e2' (fun fm t' kk x' hx' => ⟨zFl_uq hx' hx Iff.rfl, zr_i hn2⟩))
    · exact zx_idn ha hb hl hs (zy_idn ha hb hl hs ⟨rfl, zr_i hn⟩)
  · exact zx_id0 h (zy_id0 h ⟨rfl, zr_i hn⟩)
end
