section
/-! numbers: Int64 and Int32 seen as integers; ky_l, ky_i: the long, the int of an integer -/
def ky_l (x : Int) : Int64 := Int64.ofInt x
def ky_i (x : Int) : Int32 := Int32.ofInt x
theorem ky_lT {x : Int} (h : -1000000000000 ≤ x ∧ x ≤ 1000000000000) : (ky_l x).toInt = x := by
  unfold ky_l
  exact Int64.toInt_ofInt_of_le (by omega) (by omega)
theorem ky_iT {x : Int} (h : -1000000000 ≤ x ∧ x ≤ 1000000000) : (ky_i x).toInt = x := by
  unfold ky_i
  exact Int32.toInt_ofInt_of_le (by omega) (by omega)
theorem ky_ladd (x y : Int) : ky_l x + ky_l y = ky_l (x + y) := (Int64.ofInt_add x y).symm
theorem ky_lsub (x y : Int) : ky_l x - ky_l y = ky_l (x - y) := (Int64.ofInt_sub x y).symm
theorem ky_lmul (x y : Int) : ky_l x * ky_l y = ky_l (x * y) := (Int64.ofInt_mul x y).symm
theorem ky_lneg (x : Int) : -ky_l x = ky_l (-x) := (Int64.ofInt_neg x).symm
theorem ky_iadd (x y : Int) : ky_i x + ky_i y = ky_i (x + y) := (Int32.ofInt_add x y).symm
theorem ky_isub (x y : Int) : ky_i x - ky_i y = ky_i (x - y) := (Int32.ofInt_sub x y).symm
theorem ky_imul (x y : Int) : ky_i x * ky_i y = ky_i (x * y) := (Int32.ofInt_mul x y).symm
theorem ky_nI (n : Nat) : nI n = ky_i (n : Int) := (Int32.ofInt_eq_ofNat).symm
theorem ky_lN (n : Nat) : lN n = ky_l (n : Int) := (Int64.ofInt_eq_ofNat).symm
theorem ky_l0 : (0 : Int64) = ky_l 0 := by decide
theorem ky_i0 : (0 : Int32) = ky_i 0 := by decide
theorem ky_llt {u v : Int64} {x y : Int} (hu : u = ky_l x) (hv : v = ky_l y) (hx : -1000000000000 ≤ x ∧ x ≤ 1000000000000 := by omega) (hy : -1000000000000 ≤ y ∧ y ≤ 1000000000000 := by omega) : u < v ↔ x < y := by
  subst hu hv
  rw [Int64.lt_iff_toInt_lt, ky_lT hx, ky_lT hy]
theorem ky_lle {u v : Int64} {x y : Int} (hu : u = ky_l x) (hv : v = ky_l y) (hx : -1000000000000 ≤ x ∧ x ≤ 1000000000000 := by omega) (hy : -1000000000000 ≤ y ∧ y ≤ 1000000000000 := by omega) : u ≤ v ↔ x ≤ y := by
  subst hu hv
  rw [Int64.le_iff_toInt_le, ky_lT hx, ky_lT hy]
theorem ky_leq {u v : Int64} {x y : Int} (hu : u = ky_l x) (hv : v = ky_l y) (hx : -1000000000000 ≤ x ∧ x ≤ 1000000000000 := by omega) (hy : -1000000000000 ≤ y ∧ y ≤ 1000000000000 := by omega) : u = v ↔ x = y := by
  subst hu hv
  rw [← Int64.toInt_inj, ky_lT hx, ky_lT hy]
theorem ky_ilt {u v : Int32} {x y : Int} (hu : u = ky_i x) (hv : v = ky_i y) (hx : -1000000000 ≤ x ∧ x ≤ 1000000000 := by omega) (hy : -1000000000 ≤ y ∧ y ≤ 1000000000 := by omega) : u < v ↔ x < y := by
  subst hu hv
  rw [Int32.lt_iff_toInt_lt, ky_iT hx, ky_iT hy]
theorem ky_ile {u v : Int32} {x y : Int} (hu : u = ky_i x) (hv : v = ky_i y) (hx : -1000000000 ≤ x ∧ x ≤ 1000000000 := by omega) (hy : -1000000000 ≤ y ∧ y ≤ 1000000000 := by omega) : u ≤ v ↔ x ≤ y := by
  subst hu hv
  rw [Int32.le_iff_toInt_le, ky_iT hx, ky_iT hy]
theorem ky_ieq {u v : Int32} {x y : Int} (hu : u = ky_i x) (hv : v = ky_i y) (hx : -1000000000 ≤ x ∧ x ≤ 1000000000 := by omega) (hy : -1000000000 ≤ y ∧ y ≤ 1000000000 := by omega) : u = v ↔ x = y := by
  subst hu hv
  rw [← Int32.toInt_inj, ky_iT hx, ky_iT hy]
theorem ky_li (x : Int) : (ky_l x).toInt32 = ky_i x := Int64.toInt32_ofInt
theorem ky_il {x : Int} (h : -1000000000 ≤ x ∧ x ≤ 1000000000) : (ky_i x).toInt64 = ky_l x := by
  apply Int64.toInt_inj.mp
  rw [Int32.toInt_toInt64, ky_iT h, ky_lT (by omega)]
theorem ky_i8 {x : Int} (h : -128 ≤ x ∧ x ≤ 127) : (ky_i x).toInt8.toInt32 = ky_i x := by
  apply Int32.toInt_inj.mp
  rw [Int8.toInt_toInt32, ky_iT (by omega)]
  unfold ky_i
  rw [Int32.toInt8_ofInt]
  exact Int8.toInt_ofInt_of_le (by omega) (by omega)
theorem ky_ldiv {x d : Int} (hx : -1000000000000 ≤ x ∧ x ≤ 1000000000000) (hd : -1000000000000 ≤ d ∧ d ≤ 1000000000000) : ky_l x / ky_l d = ky_l (x.tdiv d) := by
  have h1 : Int64.minValue.toInt = -9223372036854775808 := by decide
  have h2 : Int64.maxValue.toInt = 9223372036854775807 := by decide
  exact (Int64.ofInt_tdiv (by omega) (by omega) (by omega) (by omega)).symm
theorem ky_idiv {x d : Int} (hx : -1000000000 ≤ x ∧ x ≤ 1000000000) (hd : -1000000000 ≤ d ∧ d ≤ 1000000000) : ky_i x / ky_i d = ky_i (x.tdiv d) := by
  have h1 : Int32.minValue.toInt = -2147483648 := by decide
  have h2 : Int32.maxValue.toInt = 2147483647 := by decide
  exact (Int32.ofInt_tdiv (by omega) (by omega) (by omega) (by omega)).symm
theorem ky_irem {x d : Int} (hx : -1000000000 ≤ x ∧ x ≤ 1000000000) (hd : -1000000000 ≤ d ∧ d ≤ 1000000000) : ky_i x - ky_i x / ky_i d * ky_i d = ky_i (x.tmod d) := by
  rw [ky_idiv hx hd, ky_imul, ky_isub, Int.tmod_def, Int.mul_comm d]
theorem ky_tdiv {x g k : Int} (hg : 0 < g) (h : x = g * k) : x.tdiv g = k := by
  rw [h]
  exact Int.mul_tdiv_cancel_left k (by omega)
/-- the remainder is 0 when and only when the divisor divides -/
theorem ky_rem0 {u v : Int32} {x d : Int} (hu : u = ky_i x) (hv : v = ky_i d) (hx : -1000000 ≤ x ∧ x ≤ 1000000 := by omega) (hd : 0 < d ∧ d ≤ 1000000 := by omega) : (u - u / v * v) = 0 ↔ d ∣ x := by
  subst hu hv
  rw [ky_irem (by omega) (by omega), Int.dvd_iff_tmod_eq_zero]
  have h1 : (x.tmod d).natAbs < d.natAbs ∨ d = 0 := by
    by_cases h : d = 0
    · exact Or.inr h
    · left
      rw [Int.natAbs_tmod]
      exact Nat.mod_lt _ (by omega)
  exact ky_ieq rfl ky_i0 (by omega) (by omega)
/-- the bounds of a product of two bounded ints -/
theorem ky_bm {x y : Int} (a b : Nat) (hx : -(a : Int) ≤ x ∧ x ≤ a) (hy : -(b : Int) ≤ y ∧ y ≤ b) : -((a * b : Nat) : Int) ≤ x * y ∧ x * y ≤ ((a * b : Nat) : Int) := by
  have h1 : (x * y).natAbs ≤ a * b := by
    rw [Int.natAbs_mul]
    exact Nat.mul_le_mul (by omega) (by omega)
  omega
/-! the greatest common divisor: lowest -/
theorem ky_low27 {post : St2 → Prop} {pc : Int32} {top bot : Int64} {a1 a2 a3 : Nat → Int32} {a4 a5 : Nat → Int64} {a6 a7 : Nat → Int32} : ∀ (n x y : Nat), x < n → x ≤ 1000000 → y ≤ 1000000 → 0 < Nat.gcd x y →
    post (pc, top / lN (Nat.gcd x y), bot / lN (Nat.gcd x y), a1, a2, a3, a4, a5, a6, a7) → wX_lowest_27 post pc top bot a1 a2 a3 a4 a5 a6 a7 n (lN x) (lN y) := by
  intro n
  induction n with
  | zero => intro x y h; exact absurd h (by omega)
  | succ n ih =>
    intro x y hn hx hy hg hp
    by_cases h : x = 0
    · subst h
      rw [Nat.gcd_zero_left] at hp hg
      have hy0 : ¬ lN y = 0 := fun z => absurd ((pk_lEQ (a := y) (b := 0) (by omega) (by omega)).mp z) (by omega)
      exact br_t rfl ⟨hy0, nm_e ⟨hy0, nm_e hp⟩⟩
    · have hx0 : ¬ lN x = 0 := fun z => absurd ((pk_lEQ (a := x) (b := 0) (by omega) (by omega)).mp z) (by omega)
      rw [Nat.gcd_rec] at hp hg
      have hm : y % x < x := Nat.mod_lt _ (by omega)
      exact br_f hx0 ⟨hx0, nm_r (pk_lRem (by omega) (by omega) (by omega)) (ih (y % x) x (by omega) (by omega) (by omega) hg hp)⟩
theorem ky_lowest {post : St2 → Prop} {pc : Int32} {a1 a2 a3 : Nat → Int32} {a4 a5 : Nat → Int64} {a6 a7 : Nat → Int32} {T B : Int} (hT : -1000000 ≤ T ∧ T ≤ 1000000) (hB : 0 < B ∧ B ≤ 1000000)
    (H : ∀ (g : Nat) (T' B' : Int), g = Int.gcd T B → 0 < g → T = g * T' → B = g * B' → post (pc, ky_l T', ky_l B', a1, a2, a3, a4, a5, a6, a7)) :
    wpX_lowest post (pc, ky_l T, ky_l B, a1, a2, a3, a4, a5, a6, a7) := by
  have hg : 0 < Nat.gcd T.natAbs B.natAbs := Nat.gcd_pos_of_pos_right _ (by omega)
  have d1 : ((Int.gcd T B : Nat) : Int) ∣ T := Int.gcd_dvd_left T B
  have d2 : ((Int.gcd T B : Nat) : Int) ∣ B := Int.gcd_dvd_right T B
  obtain ⟨T', e1⟩ := d1
  obtain ⟨B', e2⟩ := d2
  have hgl : Nat.gcd T.natAbs B.natAbs ≤ B.natAbs := Nat.gcd_le_right _ (by omega)
  have hgE : Int.gcd T B = Nat.gcd T.natAbs B.natAbs := rfl
  have q1 : ky_l T / lN (Nat.gcd T.natAbs B.natAbs) = ky_l T' := by
    rw [ky_lN, ky_ldiv (by omega) (by omega), ky_tdiv (by omega) (show T = ((Nat.gcd T.natAbs B.natAbs : Nat) : Int) * T' from e1)]
  have q2 : ky_l B / lN (Nat.gcd T.natAbs B.natAbs) = ky_l B' := by
    rw [ky_lN, ky_ldiv (by omega) (by omega), ky_tdiv (by omega) (show B = ((Nat.gcd T.natAbs B.natAbs : Nat) : Int) * B' from e2)]
  have hp := H (Int.gcd T B) T' B' rfl (by omega) e1 e2
  rw [← q1, ← q2] at hp
  have eB : ky_l B = lN B.natAbs := by rw [ky_lN, Int.natAbs_of_nonneg (by omega)]
  have L := ky_low27 (post := post) (pc := pc) (top := ky_l T) (bot := ky_l B) (a1 := a1) (a2 := a2) (a3 := a3) (a4 := a4) (a5 := a5) (a6 := a6) (a7 := a7) (T.natAbs + 1) T.natAbs B.natAbs (by omega) (by omega) (by omega) hg hp
  have L2 : wX_lowest_27 post pc (ky_l T) (ky_l B) a1 a2 a3 a4 a5 a6 a7 (T.natAbs + 1) (lN T.natAbs) (ky_l B) := by
    rw [eB] at L ⊢
    exact L
  refine ek_if (ky_lle ky_l0 rfl) (fun z => ⟨T.natAbs + 1, ?_⟩) (fun z => nm_r (e' := lN T.natAbs) ?_ ⟨T.natAbs + 1, L2⟩)
  · have e : ky_l T = lN T.natAbs := by rw [ky_lN, Int.natAbs_of_nonneg (by omega)]
    rw [← e] at L2
    exact L2
  · rw [ky_lneg, ky_lN]
    congr 1
    omega
end
section
/-! relax: one arc, one round, five rounds -/
/-- the arcs that are there: 9 (1 to 3), 14 (2 to 2), 19 (3 to 1) -/
def ky_G (a1 : Nat → Int32) : Prop := a1 9 = 1 ∧ a1 14 = 1 ∧ a1 19 = 1 ∧ ∀ i, i ≠ 9 → i ≠ 14 → i ≠ 19 → a1 i = 0
/-- the reduced weight of arc k is W -/
def ky_RW (x1 : Int32) (top bot : Int64) (a1 a2 a3 : Nat → Int32) (k : Nat) (W : Int) : Prop := ∀ (ps : Int64 → Prop) (pc : Int32) (a4 a5 : Nat → Int64) (a6 a7 : Nat → Int32), ps (ky_l W) → wpX_reducedWeight ps (pc, top, bot, a1, a2, a3, a4, a5, a6, a7) (nI k) x1
section
variable {post : Int32 → St2 → Prop} {J : Int32 → Int32 → (Nat → Int32) → (Nat → Int32) → (Nat → Int32) → (Nat → Int64) → (Nat → Int64) → (Nat → Int32) → (Nat → Int32) → Prop} {pc x1 x2 x3 : Int32} {top bot : Int64} {a1 a2 a3 : Nat → Int32} {a4 a5 : Nat → Int64} {a6 a7 : Nat → Int32} {A B C D1 D2 D3 : Int}
theorem ky_r45_skip {n : Nat} : ∀ (d j : Nat), j + d ≤ 36 → (∀ i, i < d → a1 (j + i) = 0) → wX_relax_45 post J x1 x3 pc top bot n x2 (nI (j + d)) a1 a2 a3 a4 a5 a6 a7 → wX_relax_45 post J x1 x3 pc top bot (n + d) x2 (nI j) a1 a2 a3 a4 a5 a6 a7 := by
  intro d
  induction d with
  | zero => intro j _ _ h; exact h
  | succ d ih =>
    intro j hj h0 h
    have h' : wX_relax_45 post J x1 x3 pc top bot (n + d) x2 (nI (j + 1)) a1 a2 a3 a4 a5 a6 a7 := ih (j + 1) (by omega) (fun i hi => by rw [show j + 1 + i = j + (i + 1) by omega]; exact h0 (i + 1) (by omega)) (by rw [show j + 1 + d = j + (d + 1) by omega]; exact h)
    have hz : a1 j = 0 := h0 0 (by omega)
    exact pk_le 36 j (fun z => absurd z (by omega)) (fun _ => ⟨pk_in j 36 (by omega), br_t (by rw [nI_clamp (by omega)]; exact hz) (nm_r (nI_1 j) h')⟩)
theorem ky_r45_arc {n : Nat} {W Du Dv : Int} (k u v : Nat) (hk : k < 36) (hu : k / 6 = u) (hv : k % 6 = v) (h1 : a1 k = 1) (hW : ky_RW x1 top bot a1 a2 a3 k W) (hDu : a5 u = ky_l Du) (hDv : a5 v = ky_l Dv) (b1 : -1000000 ≤ Du + W ∧ Du + W ≤ 1000000) (b2 : -1000000 ≤ Dv ∧ Dv ≤ 1000000)
    (ht : Du + W < Dv → wX_relax_45 post J x1 x3 pc top bot n (nI v) (nI (k + 1)) a1 a2 a3 a4 (vp_updL a5 v (ky_l (Du + W))) (upd a6 v (nI u)) a7)
    (hf : ¬ Du + W < Dv → wX_relax_45 post J x1 x3 pc top bot n x2 (nI (k + 1)) a1 a2 a3 a4 a5 a6 a7) :
    wX_relax_45 post J x1 x3 pc top bot (n + 1) x2 (nI k) a1 a2 a3 a4 a5 a6 a7 := by
  have q6 : nI k / 6 = nI u := by rw [← hu]; exact pk_div (d := 6) (by omega) (by omega) (by omega)
  have r6 : nI k - nI k / 6 * 6 = nI v := by rw [← hv]; exact pk_rem (d := 6) (by omega) (by omega) (by omega)
  have hu6 : u < 6 := by omega
  have hv6 : v < 6 := by omega
  have b8 : (nI u).toInt8.toInt32 = nI u := by rw [ky_nI]; exact ky_i8 (by omega)
  refine pk_le 36 k (fun z => absurd z (by omega)) (fun _ => ⟨pk_in k 36 hk, br_f ?_ ⟨by decide, nm_r r6 ⟨by decide, ?_⟩⟩⟩)
  · rw [nI_clamp (by omega), h1]; decide
  · rw [q6]
    refine ⟨pk_in u 6 hu6, hW _ _ _ _ _ _ (nm_r (e' := ky_l (Du + W)) ?_ ⟨pk_in v 6 hv6, ek_if (ky_llt (x := Du + W) (y := Dv) rfl ?_) (fun z => ⟨pk_in v 6 hv6, nm_r (e' := vp_updL a5 v (ky_l (Du + W))) ?_ ⟨by decide, pk_in v 6 hv6, nm_r (e' := upd a6 v (nI u)) ?_ (nm_r (nI_1 k) (ht z))⟩⟩) (fun z => nm_r (nI_1 k) (hf z))⟩)⟩
    · rw [nI_clamp (by omega), hDu, ky_ladd]
    · rw [nI_clamp (by omega)]; exact hDv
    · rw [nI_clamp (by omega)]
    · rw [nI_clamp (by omega), b8]
theorem ky_r45_end {n : Nat} (h : J x2 (x3 + 1) a1 a2 a3 a4 a5 a6 a7) : wX_relax_45 post J x1 x3 pc top bot (n + 1) x2 (nI 36) a1 a2 a3 a4 a5 a6 a7 :=
  pk_le 36 36 (fun _ => nm_e h) (fun z => absurd z (by omega))
theorem ky_c19 (G : ky_G a1) (hB : ky_RW x1 top bot a1 a2 a3 19 B) (e1 : a5 1 = ky_l D1) (e3 : a5 3 = ky_l D3) (b1 : -1000000 ≤ D3 + B ∧ D3 + B ≤ 1000000) (b2 : -1000000 ≤ D1 ∧ D1 ≤ 1000000)
    (ht : D3 + B < D1 → J (nI 1) (x3 + 1) a1 a2 a3 a4 (vp_updL a5 1 (ky_l (D3 + B))) (upd a6 1 (nI 3)) a7)
    (hf : ¬ D3 + B < D1 → J x2 (x3 + 1) a1 a2 a3 a4 a5 a6 a7) :
    wX_relax_45 post J x1 x3 pc top bot 22 x2 (nI 15) a1 a2 a3 a4 a5 a6 a7 :=
  ky_r45_skip (n := 18) 4 15 (by omega) (fun i hi => G.2.2.2 _ (by omega) (by omega) (by omega))
    (ky_r45_arc (n := 17) 19 3 1 (by omega) rfl rfl G.2.2.1 hB e3 e1 b1 b2
      (fun z => ky_r45_skip (n := 1) 16 20 (by omega) (fun i hi => G.2.2.2 _ (by omega) (by omega) (by omega)) (ky_r45_end (ht z)))
      (fun z => ky_r45_skip (n := 1) 16 20 (by omega) (fun i hi => G.2.2.2 _ (by omega) (by omega) (by omega)) (ky_r45_end (hf z))))
theorem ky_c14 (G : ky_G a1) (hC : ky_RW x1 top bot a1 a2 a3 14 C) (e2 : a5 2 = ky_l D2) (b1 : -1000000 ≤ D2 + C ∧ D2 + C ≤ 1000000) (b2 : -1000000 ≤ D2 ∧ D2 ≤ 1000000)
    (ht : D2 + C < D2 → wX_relax_45 post J x1 x3 pc top bot 22 (nI 2) (nI 15) a1 a2 a3 a4 (vp_updL a5 2 (ky_l (D2 + C))) (upd a6 2 (nI 2)) a7)
    (hf : ¬ D2 + C < D2 → wX_relax_45 post J x1 x3 pc top bot 22 x2 (nI 15) a1 a2 a3 a4 a5 a6 a7) :
    wX_relax_45 post J x1 x3 pc top bot 27 x2 (nI 10) a1 a2 a3 a4 a5 a6 a7 :=
  ky_r45_skip (n := 23) 4 10 (by omega) (fun i hi => G.2.2.2 _ (by omega) (by omega) (by omega))
    (ky_r45_arc (n := 22) 14 2 2 (by omega) rfl rfl G.2.1 hC e2 e2 b1 b2 ht hf)
theorem ky_c9 (G : ky_G a1) (hA : ky_RW x1 top bot a1 a2 a3 9 A) (e1 : a5 1 = ky_l D1) (e3 : a5 3 = ky_l D3) (b1 : -1000000 ≤ D1 + A ∧ D1 + A ≤ 1000000) (b2 : -1000000 ≤ D3 ∧ D3 ≤ 1000000)
    (ht : D1 + A < D3 → wX_relax_45 post J x1 x3 pc top bot 27 (nI 3) (nI 10) a1 a2 a3 a4 (vp_updL a5 3 (ky_l (D1 + A))) (upd a6 3 (nI 1)) a7)
    (hf : ¬ D1 + A < D3 → wX_relax_45 post J x1 x3 pc top bot 27 x2 (nI 10) a1 a2 a3 a4 a5 a6 a7) :
    wX_relax_45 post J x1 x3 pc top bot 37 x2 (nI 0) a1 a2 a3 a4 a5 a6 a7 :=
  ky_r45_skip (n := 28) 9 0 (by omega) (fun i hi => G.2.2.2 _ (by omega) (by omega) (by omega))
    (ky_r45_arc (n := 27) 9 1 3 (by omega) rfl rfl G.1 hA e1 e3 b1 b2 ht hf)
theorem ky_round (G : ky_G a1) (hA : ky_RW x1 top bot a1 a2 a3 9 A) (hC : ky_RW x1 top bot a1 a2 a3 14 C) (hB : ky_RW x1 top bot a1 a2 a3 19 B) (e1 : a5 1 = ky_l D1) (e2 : a5 2 = ky_l D2) (e3 : a5 3 = ky_l D3)
    (bA : -1000 ≤ A ∧ A ≤ 1000) (bB : -1000 ≤ B ∧ B ≤ 1000) (bC : -1000 ≤ C ∧ C ≤ 1000) (b1 : -100000 ≤ D1 ∧ D1 ≤ 100000) (b2 : -100000 ≤ D2 ∧ D2 ≤ 100000) (b3 : -100000 ≤ D3 ∧ D3 ≤ 100000)
    (H : ∀ (a5' : Nat → Int64) (a6' : Nat → Int32) (r : Int32) (D1' D2' D3' : Int), a5' 1 = ky_l D1' → a5' 2 = ky_l D2' → a5' 3 = ky_l D3' →
      ((D1 + A < D3 ∧ D3' = D1 + A ∧ a6' 3 = nI 1) ∨ (D3 ≤ D1 + A ∧ D3' = D3 ∧ a6' 3 = a6 3)) →
      ((C < 0 ∧ D2' = D2 + C ∧ a6' 2 = nI 2) ∨ (0 ≤ C ∧ D2' = D2 ∧ a6' 2 = a6 2)) →
      ((D3' + B < D1 ∧ D1' = D3' + B ∧ a6' 1 = nI 3 ∧ r = nI 1) ∨ (D1 ≤ D3' + B ∧ D1' = D1 ∧ a6' 1 = a6 1 ∧ ((C < 0 ∧ r = nI 2) ∨ (0 ≤ C ∧ D1 + A < D3 ∧ r = nI 3) ∨ (0 ≤ C ∧ D3 ≤ D1 + A ∧ r = -1)))) →
      J r (x3 + 1) a1 a2 a3 a4 a5' a6' a7) :
    ∃ n, wX_relax_45 post J x1 x3 pc top bot n (-1) 0 a1 a2 a3 a4 a5 a6 a7 := by
  refine ⟨37, ky_c9 G hA e1 e3 (by omega) (by omega) (fun z9 => ?_) (fun z9 => ?_)⟩
  · refine ky_c14 G hC (D2 := D2) e2 (by omega) (by omega) (fun z14 => ?_) (fun z14 => ?_)
    · refine ky_c19 G hB (D1 := D1) (D3 := D1 + A) e1 rfl (by omega) (by omega) (fun z => ?_) (fun z => ?_)
      · exact H _ _ _ (D1 + A + B) (D2 + C) (D1 + A) rfl rfl rfl (Or.inl ⟨z9, rfl, rfl⟩) (Or.inl ⟨by omega, rfl, rfl⟩) (Or.inl ⟨z, rfl, rfl, rfl⟩)
      · exact H _ _ _ D1 (D2 + C) (D1 + A) e1 rfl rfl (Or.inl ⟨z9, rfl, rfl⟩) (Or.inl ⟨by omega, rfl, rfl⟩) (Or.inr ⟨by omega, rfl, rfl, Or.inl ⟨by omega, rfl⟩⟩)
    · refine ky_c19 G hB (D1 := D1) (D3 := D1 + A) e1 rfl (by omega) (by omega) (fun z => ?_) (fun z => ?_)
      · exact H _ _ _ (D1 + A + B) D2 (D1 + A) rfl e2 rfl (Or.inl ⟨z9, rfl, rfl⟩) (Or.inr ⟨by omega, rfl, rfl⟩) (Or.inl ⟨z, rfl, rfl, rfl⟩)
      · exact H _ _ _ D1 D2 (D1 + A) e1 e2 rfl (Or.inl ⟨z9, rfl, rfl⟩) (Or.inr ⟨by omega, rfl, rfl⟩) (Or.inr ⟨by omega, rfl, rfl, Or.inr (Or.inl ⟨by omega, z9, rfl⟩)⟩)
  · refine ky_c14 G hC (D2 := D2) e2 (by omega) (by omega) (fun z14 => ?_) (fun z14 => ?_)
    · refine ky_c19 G hB (D1 := D1) (D3 := D3) e1 e3 (by omega) (by omega) (fun z => ?_) (fun z => ?_)
      · exact H _ _ _ (D3 + B) (D2 + C) D3 rfl rfl e3 (Or.inr ⟨by omega, rfl, rfl⟩) (Or.inl ⟨by omega, rfl, rfl⟩) (Or.inl ⟨z, rfl, rfl, rfl⟩)
      · exact H _ _ _ D1 (D2 + C) D3 e1 rfl e3 (Or.inr ⟨by omega, rfl, rfl⟩) (Or.inl ⟨by omega, rfl, rfl⟩) (Or.inr ⟨by omega, rfl, rfl, Or.inl ⟨by omega, rfl⟩⟩)
    · refine ky_c19 G hB (D1 := D1) (D3 := D3) e1 e3 (by omega) (by omega) (fun z => ?_) (fun z => ?_)
      · exact H _ _ _ (D3 + B) D2 D3 rfl e2 e3 (Or.inr ⟨by omega, rfl, rfl⟩) (Or.inr ⟨by omega, rfl, rfl⟩) (Or.inl ⟨z, rfl, rfl, rfl⟩)
      · exact H _ _ _ D1 D2 D3 e1 e2 e3 (Or.inr ⟨by omega, rfl, rfl⟩) (Or.inr ⟨by omega, rfl, rfl⟩) (Or.inr ⟨by omega, rfl, rfl, Or.inr (Or.inr ⟨by omega, by omega, rfl⟩)⟩)
end
/-- the picture of relax after j rounds -/
def ky_RI (A B C : Int) (j : Nat) (a5 : Nat → Int64) (a6 : Nat → Int32) (r : Int32) : Prop :=
  ∃ D1 D2 D3 : Int, a5 1 = ky_l D1 ∧ a5 2 = ky_l D2 ∧ a5 3 = ky_l D3 ∧ (-(3000 * (j : Int)) ≤ D1 ∧ D1 ≤ 0 ∧ -(3000 * (j : Int)) ≤ D2 ∧ D2 ≤ 0 ∧ -(3000 * (j : Int)) ≤ D3 ∧ D3 ≤ 0) ∧
  ((j = 0 ∧ D1 = 0 ∧ D2 = 0 ∧ D3 = 0) ∨
   (1 ≤ j ∧ A + B < 0 ∧ D1 = D3 + B ∧ a6 1 = nI 3 ∧ r = nI 1 ∧ (j = 1 ∨ a6 3 = nI 1)) ∨
   (1 ≤ j ∧ 0 ≤ A + B ∧ ((A < 0 ∧ D3 = A) ∨ (0 ≤ A ∧ D3 = 0)) ∧ ((D3 + B < 0 ∧ D1 = D3 + B) ∨ (0 ≤ D3 + B ∧ D1 = 0)) ∧ ((C < 0 ∧ a6 2 = nI 2 ∧ (j = 1 ∨ r = nI 2)) ∨ (0 ≤ C ∧ D2 = 0 ∧ (j = 1 ∨ r = -1)))))
theorem ky_RI_step {A B C D1 D2 D3 D1' D2' D3' : Int} {j : Nat} {a5' : Nat → Int64} {a6 a6' : Nat → Int32} {r r' : Int32}
    (bA : -1000 ≤ A ∧ A ≤ 1000) (bB : -1000 ≤ B ∧ B ≤ 1000) (bC : -1000 ≤ C ∧ C ≤ 1000)
    (bd : -(3000 * (j : Int)) ≤ D1 ∧ D1 ≤ 0 ∧ -(3000 * (j : Int)) ≤ D2 ∧ D2 ≤ 0 ∧ -(3000 * (j : Int)) ≤ D3 ∧ D3 ≤ 0)
    (h : (j = 0 ∧ D1 = 0 ∧ D2 = 0 ∧ D3 = 0) ∨
      (1 ≤ j ∧ A + B < 0 ∧ D1 = D3 + B ∧ a6 1 = nI 3 ∧ r = nI 1 ∧ (j = 1 ∨ a6 3 = nI 1)) ∨
      (1 ≤ j ∧ 0 ≤ A + B ∧ ((A < 0 ∧ D3 = A) ∨ (0 ≤ A ∧ D3 = 0)) ∧ ((D3 + B < 0 ∧ D1 = D3 + B) ∨ (0 ≤ D3 + B ∧ D1 = 0)) ∧ ((C < 0 ∧ a6 2 = nI 2 ∧ (j = 1 ∨ r = nI 2)) ∨ (0 ≤ C ∧ D2 = 0 ∧ (j = 1 ∨ r = -1)))))
    (f1 : a5' 1 = ky_l D1') (f2 : a5' 2 = ky_l D2') (f3 : a5' 3 = ky_l D3')
    (o3 : (D1 + A < D3 ∧ D3' = D1 + A ∧ a6' 3 = nI 1) ∨ (D3 ≤ D1 + A ∧ D3' = D3 ∧ a6' 3 = a6 3))
    (o2 : (C < 0 ∧ D2' = D2 + C ∧ a6' 2 = nI 2) ∨ (0 ≤ C ∧ D2' = D2 ∧ a6' 2 = a6 2))
    (o1 : (D3' + B < D1 ∧ D1' = D3' + B ∧ a6' 1 = nI 3 ∧ r' = nI 1) ∨ (D1 ≤ D3' + B ∧ D1' = D1 ∧ a6' 1 = a6 1 ∧ ((C < 0 ∧ r' = nI 2) ∨ (0 ≤ C ∧ D1 + A < D3 ∧ r' = nI 3) ∨ (0 ≤ C ∧ D3 ≤ D1 + A ∧ r' = -1)))) :
    ky_RI A B C (j + 1) a5' a6' r' := by
  have k3 : D3' = D1 + A ∧ D3' < D3 ∨ D3' = D3 := by
    rcases o3 with ⟨w1, w2, _⟩ | ⟨w1, w2, _⟩ <;> omega
  have k2 : D2' = D2 + C ∧ D2' < D2 ∨ D2' = D2 := by
    rcases o2 with ⟨w1, w2, _⟩ | ⟨w1, w2, _⟩ <;> omega
  have k1 : D1' = D3' + B ∧ D1' < D1 ∨ D1' = D1 := by
    rcases o1 with ⟨w1, w2, _⟩ | ⟨w1, w2, _⟩ <;> omega
  refine ⟨D1', D2', D3', f1, f2, f3, by omega, ?_⟩
  rcases h with ⟨hj, z1, z2, z3⟩ | ⟨hj, hAB, hD, hc1, hr, hc3⟩ | ⟨hj, hAB, m3, m1, hC⟩
  · by_cases hAB : A + B < 0
    · refine Or.inr (Or.inl ⟨by omega, hAB, ?_⟩)
      rcases o1 with ⟨u1, u2, u3, u4⟩ | ⟨u1, u2, u3, u4⟩
      · exact ⟨by omega, u3, u4, Or.inl (by omega)⟩
      · exfalso
        rcases o3 with ⟨w1, w2, _⟩ | ⟨w1, w2, _⟩ <;> omega
    · refine Or.inr (Or.inr ⟨by omega, by omega, ?_, ?_, ?_⟩)
      · rcases o3 with ⟨w1, w2, _⟩ | ⟨w1, w2, _⟩
        · exact Or.inl ⟨by omega, by omega⟩
        · exact Or.inr ⟨by omega, by omega⟩
      · rcases o1 with ⟨u1, u2, _⟩ | ⟨u1, u2, _⟩
        · exact Or.inl ⟨by omega, by omega⟩
        · exact Or.inr ⟨by omega, by omega⟩
      · rcases o2 with ⟨v1, v2, v3⟩ | ⟨v1, v2, v3⟩
        · exact Or.inl ⟨v1, v3, Or.inl (by omega)⟩
        · exact Or.inr ⟨v1, by omega, Or.inl (by omega)⟩
  · rcases o3 with ⟨w1, w2, w3⟩ | ⟨w1, w2, w3⟩
    · rcases o1 with ⟨u1, u2, u3, u4⟩ | ⟨u1, u2, u3, u4⟩
      · exact Or.inr (Or.inl ⟨by omega, hAB, by omega, u3, u4, Or.inr w3⟩)
      · exfalso
        omega
    · exfalso
      omega
  · have n3 : D3 ≤ D1 + A := by omega
    have n1 : D1 ≤ D3 + B := by omega
    rcases o3 with ⟨w1, w2, w3⟩ | ⟨w1, w2, w3⟩
    · exact absurd w1 (by omega)
    · rcases o1 with ⟨u1, u2, u3, u4⟩ | ⟨u1, u2, u3, u4⟩
      · exact absurd u1 (by omega)
      · refine Or.inr (Or.inr ⟨by omega, hAB, by omega, by omega, ?_⟩)
        rcases hC with ⟨c1, c2, _⟩ | ⟨c1, c2, _⟩
        · refine Or.inl ⟨c1, ?_, Or.inr ?_⟩
          · rcases o2 with ⟨v1, v2, v3⟩ | ⟨v1, v2, v3⟩
            · exact v3
            · exact absurd v1 (by omega)
          · rcases u4 with ⟨_, t⟩ | ⟨t0, _, _⟩ | ⟨t0, _, _⟩
            · exact t
            · exact absurd t0 (by omega)
            · exact absurd t0 (by omega)
        · refine Or.inr ⟨c1, ?_, Or.inr ?_⟩
          · rcases o2 with ⟨v1, v2, v3⟩ | ⟨v1, v2, v3⟩ <;> omega
          · rcases u4 with ⟨t0, _⟩ | ⟨_, t0, _⟩ | ⟨_, _, t⟩
            · exact absurd t0 (by omega)
            · exact absurd t0 (by omega)
            · exact t
/-- what relax leaves and answers, by the weights A (1 to 3), B (3 to 1), C (2 to 2) -/
def ky_Rel (A B C : Int) (a5 : Nat → Int64) (a6 : Nat → Int32) (r : Int32) : Prop :=
  (A + B < 0 ∧ r = nI 1 ∧ a6 1 = nI 3 ∧ a6 3 = nI 1) ∨ (0 ≤ A + B ∧ C < 0 ∧ r = nI 2 ∧ a6 2 = nI 2) ∨
  (0 ≤ A + B ∧ 0 ≤ C ∧ r = -1 ∧ ∃ D1 D3 : Int, a5 1 = ky_l D1 ∧ a5 2 = ky_l 0 ∧ a5 3 = ky_l D3 ∧ ((A < 0 ∧ D3 = A) ∨ (0 ≤ A ∧ D3 = 0)) ∧ ((D3 + B < 0 ∧ D1 = D3 + B) ∨ (0 ≤ D3 + B ∧ D1 = 0)))
theorem ky_RI_end {A B C : Int} {a5 : Nat → Int64} {a6 : Nat → Int32} {r : Int32} (h : ky_RI A B C 5 a5 a6 r) : ky_Rel A B C a5 a6 r := by
  obtain ⟨D1, D2, D3, e1, e2, e3, bd, h⟩ := h
  rcases h with ⟨hj, _⟩ | ⟨hj, hAB, hD, hc1, hr, hc3⟩ | ⟨hj, hAB, m3, m1, hC⟩
  · exact absurd hj (by omega)
  · rcases hc3 with z | z
    · exact absurd z (by omega)
    · exact Or.inl ⟨hAB, hr, hc1, z⟩
  · rcases hC with ⟨c1, c2, c3⟩ | ⟨c1, c2, c3⟩
    · rcases c3 with z | z
      · exact absurd z (by omega)
      · exact Or.inr (Or.inl ⟨hAB, c1, z, c2⟩)
    · rcases c3 with z | z
      · exact absurd z (by omega)
      · subst c2
        exact Or.inr (Or.inr ⟨hAB, c1, z, D1, D3, e1, e2, e3, m3, m1⟩)
section
variable {post : Int32 → St2 → Prop} {x1 : Int32} {top bot : Int64} {a1 a2 a3 : Nat → Int32} {a4 a5 : Nat → Int64} {a6 a7 : Nat → Int32} {A B C : Int}
theorem ky_r32 (G : ky_G a1) (hA : ky_RW x1 top bot a1 a2 a3 9 A) (hC : ky_RW x1 top bot a1 a2 a3 14 C) (hB : ky_RW x1 top bot a1 a2 a3 19 B)
    (bA : -1000 ≤ A ∧ A ≤ 1000) (bB : -1000 ≤ B ∧ B ≤ 1000) (bC : -1000 ≤ C ∧ C ≤ 1000) (e1 : a5 1 = 0) (e2 : a5 2 = 0) (e3 : a5 3 = 0)
    (H : ∀ (a5' : Nat → Int64) (a6' : Nat → Int32) (r : Int32), ky_Rel A B C a5' a6' r → post r (4, top, bot, a1, a2, a3, a4, a5', a6', a7)) :
    ∃ n, wX_relax_32 post x1 4 top bot n (-1) 0 a1 a2 a3 a4 a5 a6 a7 :=
  pk_loop (σ := Int32 × (Nat → Int64) × (Nat → Int32)) (fun n j s => wX_relax_32 post x1 4 top bot n s.1 (nI j) a1 a2 a3 a4 s.2.1 s.2.2 a7) (fun j s => ky_RI A B C j s.2.1 s.2.2 s.1) 5 0 (-1, a5, a6) (by omega)
    (by exact ⟨0, 0, 0, e1.trans ky_l0, e2.trans ky_l0, e3.trans ky_l0, by omega, Or.inl ⟨rfl, rfl, rfl, rfl⟩⟩)
    (fun n s h => pk_lt 4 5 (fun _ => H _ _ _ (ky_RI_end h)) (fun z => absurd z (by omega)))
    (fun n j s hj h hw => by
      obtain ⟨D1, D2, D3, f1, f2, f3, bd, hh⟩ := h
      refine pk_lt 4 j (fun z => absurd z (by omega)) (fun _ => ky_round G hA hC hB f1 f2 f3 bA bB bC (by omega) (by omega) (by omega) (fun a5' a6' r D1' D2' D3' g1 g2 g3 o3 o2 o1 => ?_))
      rw [nI_1]
      exact hw (r, a5', a6') (ky_RI_step bA bB bC bd hh g1 g2 g3 o3 o2 o1))
theorem ky_relax (G : ky_G a1) (hA : ky_RW x1 top bot a1 a2 a3 9 A) (hC : ky_RW x1 top bot a1 a2 a3 14 C) (hB : ky_RW x1 top bot a1 a2 a3 19 B)
    (bA : -1000 ≤ A ∧ A ≤ 1000) (bB : -1000 ≤ B ∧ B ≤ 1000) (bC : -1000 ≤ C ∧ C ≤ 1000)
    (H : ∀ (a5' : Nat → Int64) (a6' : Nat → Int32) (r : Int32), ky_Rel A B C a5' a6' r → post r (4, top, bot, a1, a2, a3, a4, a5', a6', a7)) :
    wpX_relax post (4, top, bot, a1, a2, a3, a4, a5, a6, a7) x1 :=
  pk_loop (σ := (Nat → Int64) × (Nat → Int32)) (fun n i s => wX_relax_2 post x1 4 top bot n (nI i) a1 a2 a3 a4 s.1 s.2 a7) (fun i s => ∀ j, j < i → s.1 j = 0) 6 0 (a5, a6) (by omega)
    (fun j hj => absurd hj (by omega))
    (fun n s h => pk_le 6 6 (fun _ => ky_r32 G hA hC hB bA bB bC (h 1 (by omega)) (h 2 (by omega)) (h 3 (by omega)) H) (fun z => absurd z (by omega)))
    (fun n i s hi h hw => pk_le 6 i (fun z => absurd z (by omega)) (fun _ => ⟨pk_in i 6 hi, nm_e ⟨pk_in i 6 hi, nm_e (nm_r (nI_1 i) (hw (vp_updL s.1 (nI i).toNatClampNeg 0, upd s.2 (nI i).toNatClampNeg (-1)) (by
      intro j hj
      show vp_updL s.1 (nI i).toNatClampNeg 0 j = 0
      rw [nI_clamp (by omega)]
      by_cases e : j = i
      · rw [e, pk_uLs]
      · rw [pk_uLn e]
        exact h j (by omega))))⟩⟩))
end
end
section
/-! the ratio: reduced weights, takeCircle, findRatio -/
/-- what the three arcs hold: 1 to 3 (p, s), 3 to 1 (q, t), 2 to 2 (r, o) -/
def ky_S (p q r s t o : Int) (a1 a2 a3 : Nat → Int32) : Prop := ky_G a1 ∧ (a2 9 = ky_i p ∧ a2 19 = ky_i q ∧ a2 14 = ky_i r) ∧ (a3 9 = ky_i s ∧ a3 19 = ky_i t ∧ a3 14 = ky_i o) ∧
  (-20 ≤ p ∧ p ≤ 20) ∧ (-20 ≤ q ∧ q ≤ 20) ∧ (-20 ≤ r ∧ r ≤ 20) ∧ (1 ≤ s ∧ s ≤ 5) ∧ (1 ≤ t ∧ t ≤ 5) ∧ (1 ≤ o ∧ o ≤ 5)
section
variable {top bot : Int64} {a1 a2 a3 : Nat → Int32} {a4 a5 : Nat → Int64} {a6 a7 : Nat → Int32} {p q r s t o T B w v : Int} {k : Nat}
theorem ky_RW1 (hk : k < 36) (h2 : a2 k = ky_i w) (h3 : a3 k = ky_i v) (bw : -20 ≤ w ∧ w ≤ 20) (bv : 1 ≤ v ∧ v ≤ 5) (hT : top = ky_l T) (hB : bot = ky_l B) : ky_RW 1 top bot a1 a2 a3 k (w * B - T * v) := by
  intro ps pc a4 a5 a6 a7 h
  refine ⟨pk_in k 36 hk, br_f (by decide) ⟨pk_in k 36 hk, ?_⟩⟩
  rw [nI_clamp (by omega), h2, h3, hT, hB, ky_il (by omega), ky_il (by omega), ky_lmul, ky_lmul, ky_lsub]
  exact h
theorem ky_RW0 (hk : k < 36) (h2 : a2 k = ky_i w) (bw : -20 ≤ w ∧ w ≤ 20) (hT : top = ky_l T) (hB : bot = ky_l B) : ky_RW 0 top bot a1 a2 a3 k (w * B - T) := by
  intro ps pc a4 a5 a6 a7 h
  refine ⟨pk_in k 36 hk, br_t rfl ?_⟩
  rw [nI_clamp (by omega), h2, hT, hB, ky_il (by omega), show (1 : Int32).toInt64 = ky_l 1 by decide, ky_lmul, ky_lmul, ky_lsub, Int.mul_one]
  exact h
theorem ky_bW (bw : -20 ≤ w ∧ w ≤ 20) (bv : 1 ≤ v ∧ v ≤ 5) (bT : -40 ≤ T ∧ T ≤ 40) (bB : 1 ≤ B ∧ B ≤ 10) : -1000 ≤ w * B - T * v ∧ w * B - T * v ≤ 1000 := by
  have h1 := ky_bm (x := w) (y := B) 20 10 (by omega) (by omega)
  have h2 := ky_bm (x := T) (y := v) 40 5 (by omega) (by omega)
  omega
theorem ky_bW0 (bw : -20 ≤ w ∧ w ≤ 20) (bT : -40 ≤ T ∧ T ≤ 40) (bB : 1 ≤ B ∧ B ≤ 10) : -1000 ≤ w * B - T ∧ w * B - T ≤ 1000 := by
  have h1 := ky_bm (x := w) (y := B) 20 10 (by omega) (by omega)
  omega
theorem ky_relax1 {post : Int32 → St2 → Prop} (S : ky_S p q r s t o a1 a2 a3) (hT : top = ky_l T) (hB : bot = ky_l B) (bT : -40 ≤ T ∧ T ≤ 40) (bB : 1 ≤ B ∧ B ≤ 10)
    (H : ∀ (a5' : Nat → Int64) (a6' : Nat → Int32) (x : Int32), ky_Rel (p * B - T * s) (q * B - T * t) (r * B - T * o) a5' a6' x → post x (4, top, bot, a1, a2, a3, a4, a5', a6', a7)) :
    wpX_relax post (4, top, bot, a1, a2, a3, a4, a5, a6, a7) 1 := by
  obtain ⟨G, ⟨h9, h19, h14⟩, ⟨g9, g19, g14⟩, bp, bq, br, bs, bt, bo⟩ := S
  exact ky_relax G (ky_RW1 (by omega) h9 g9 bp bs hT hB) (ky_RW1 (by omega) h14 g14 br bo hT hB) (ky_RW1 (by omega) h19 g19 bq bt hT hB) (ky_bW bp bs bT bB) (ky_bW bq bt bT bB) (ky_bW br bo bT bB) H
theorem ky_relax0 {post : Int32 → St2 → Prop} (S : ky_S p q r s t o a1 a2 a3) (hT : top = ky_l T) (hB : bot = ky_l B) (bT : -40 ≤ T ∧ T ≤ 40) (bB : 1 ≤ B ∧ B ≤ 10)
    (H : ∀ (a5' : Nat → Int64) (a6' : Nat → Int32) (x : Int32), ky_Rel (p * B - T) (q * B - T) (r * B - T) a5' a6' x → post x (4, top, bot, a1, a2, a3, a4, a5', a6', a7)) :
    wpX_relax post (4, top, bot, a1, a2, a3, a4, a5, a6, a7) 0 := by
  obtain ⟨G, ⟨h9, h19, h14⟩, ⟨g9, g19, g14⟩, bp, bq, br, bs, bt, bo⟩ := S
  exact ky_relax G (ky_RW0 (by omega) h9 bp hT hB) (ky_RW0 (by omega) h14 br hT hB) (ky_RW0 (by omega) h19 bq hT hB) (ky_bW0 bp bT bB) (ky_bW0 bq bT bB) (ky_bW0 br bT bB) H
/-! takeCircle -/
theorem ky_tc4_step {post : St2 → Prop} {n u u' : Nat} (hk : k < 4) (hu : u < 6) (h : a6 u = nI u') (hW : wX_takeCircle_4 post 4 top bot a1 a2 a3 a4 a5 a6 a7 n (nI u') (nI (k + 1))) : wX_takeCircle_4 post 4 top bot a1 a2 a3 a4 a5 a6 a7 (n + 1) (nI u) (nI k) :=
  pk_le 4 k (fun z => absurd z (by omega)) (fun _ => ⟨pk_in u 6 hu, nm_r (e' := nI u') (by rw [nI_clamp (by omega)]; exact h) (nm_r (nI_1 k) hW)⟩)
theorem ky_tc47 {post : St2 → Prop} {J : Int64 → Int64 → Int32 → Int32 → Prop} {x2 pc : Int32} {x3 x5 : Int64} {u z : Nat} {X Y : Int} (hz : z < 6) (hu : u < 6) (h6 : a6 z = nI u) (h2 : a2 (6 * u + z) = ky_i w) (h3 : a3 (6 * u + z) = ky_i v) (bw : -20 ≤ w ∧ w ≤ 20) (bv : 1 ≤ v ∧ v ≤ 5) (hX : x3 = ky_l X) (hY : x5 = ky_l Y)
    (hJ : J (ky_l (X + w)) (ky_l (Y + v)) (nI u) (nI (k + 1))) : wX_takeCircle_47 post J x2 x3 x5 (nI z) (nI k) pc top bot a1 a2 a3 a4 a5 a6 a7 := by
  have e : 6 * nI u + nI z = nI (6 * u + z) := by
    show nI 6 * nI u + nI z = nI (6 * u + z)
    rw [pk_mul, nI_add]
  have e2 : x3 + (a2 (nI (6 * u + z)).toNatClampNeg).toInt64 = ky_l (X + w) := by
    rw [nI_clamp (by omega), h2, hX, ky_il (by omega), ky_ladd]
  have e3 : x5 + (a3 (nI (6 * u + z)).toNatClampNeg).toInt64 = ky_l (Y + v) := by
    rw [nI_clamp (by omega), h3, hY, ky_il (by omega), ky_ladd]
  unfold wX_takeCircle_47
  refine ⟨pk_in z 6 hz, nm_r (e' := nI u) (by rw [nI_clamp (by omega)]; exact h6) ?_⟩
  rw [e]
  exact ⟨pk_in (6 * u + z) 36 (by omega), nm_r e2 ⟨pk_in (6 * u + z) 36 (by omega), nm_r e3 (nm_r (nI_1 k) hJ)⟩⟩
theorem ky_take13 {post : St2 → Prop} (S : ky_S p q r s t o a1 a2 a3) (h1 : a6 1 = nI 3) (h3 : a6 3 = nI 1)
    (H : ∀ (g : Nat) (T' B' : Int), g = Int.gcd (p + q) (s + t) → 0 < g → p + q = g * T' → s + t = g * B' → post (4, ky_l T', ky_l B', a1, a2, a3, a4, a5, a6, a7)) :
    wpX_takeCircle post (4, top, bot, a1, a2, a3, a4, a5, a6, a7) (nI 1) := by
  obtain ⟨G, ⟨h9, h19, h14⟩, ⟨g9, g19, g14⟩, bp, bq, br, bs, bt, bo⟩ := S
  refine ⟨5, ky_tc4_step (k := 0) (by omega) (by omega) h1 (ky_tc4_step (by omega) (by omega) h3 (ky_tc4_step (by omega) (by omega) h1 (ky_tc4_step (by omega) (by omega) h3 (pk_le 4 4 (fun _ => ⟨3, ?_⟩) (fun z => absurd z (by omega))))))⟩
  refine br_t rfl (ky_tc47 (k := 0) (X := 0) (Y := 0) (by omega) (by omega) h1 h19 g19 bq bt ky_l0 ky_l0 ?_)
  refine br_f (by decide) (br_f (by decide) (ky_tc47 (by omega) (by omega) h3 h9 g9 bp bs rfl rfl ?_))
  refine br_f (by decide) (br_t rfl ?_)
  rw [show 0 + q + p = p + q by omega, show 0 + t + s = s + t by omega]
  exact ky_lowest (by omega) (by omega) H
theorem ky_take2 {post : St2 → Prop} (S : ky_S p q r s t o a1 a2 a3) (h2 : a6 2 = nI 2)
    (H : ∀ (g : Nat) (T' B' : Int), g = Int.gcd r o → 0 < g → r = g * T' → o = g * B' → post (4, ky_l T', ky_l B', a1, a2, a3, a4, a5, a6, a7)) :
    wpX_takeCircle post (4, top, bot, a1, a2, a3, a4, a5, a6, a7) (nI 2) := by
  obtain ⟨G, ⟨h9, h19, h14⟩, ⟨g9, g19, g14⟩, bp, bq, br, bs, bt, bo⟩ := S
  refine ⟨5, ky_tc4_step (k := 0) (by omega) (by omega) h2 (ky_tc4_step (by omega) (by omega) h2 (ky_tc4_step (by omega) (by omega) h2 (ky_tc4_step (by omega) (by omega) h2 (pk_le 4 4 (fun _ => ⟨2, ?_⟩) (fun z => absurd z (by omega))))))⟩
  refine br_t rfl (ky_tc47 (k := 0) (X := 0) (Y := 0) (by omega) (by omega) h2 h14 g14 br bo ky_l0 ky_l0 ?_)
  refine br_f (by decide) (br_t rfl ?_)
  rw [show 0 + r = r by omega, show 0 + o = o by omega]
  exact ky_lowest (by omega) (by omega) H
end
/-! the plain law of the ratio -/
theorem ky_sg {g : Nat} {X Y T B : Int} (u v : Int) (eX : X = g * T) (eY : Y = g * B) : (g : Int) * (u * B - T * v) = u * Y - X * v := by
  rw [eX, eY, Int.mul_sub, ← Int.mul_assoc, Int.mul_comm (g : Int) u, Int.mul_assoc, Int.mul_assoc]
theorem ky_sgN {g : Nat} {X Y T B : Int} (u v : Int) (g0 : 0 < g) (eX : X = g * T) (eY : Y = g * B) : u * B - T * v < 0 ↔ u * Y < X * v := by
  have e := ky_sg u v eX eY
  constructor
  · intro h
    have := Int.mul_neg_of_pos_of_neg (show (0 : Int) < g by omega) h
    omega
  · intro h
    rcases Int.lt_or_le (u * B - T * v) 0 with z | z
    · exact z
    · have := Int.mul_nonneg (show (0 : Int) ≤ g by omega) z
      omega
theorem ky_sg0 {g : Nat} {X Y T B : Int} (u v : Int) (g0 : 0 < g) (eX : X = g * T) (eY : Y = g * B) : u * B - T * v = 0 ↔ u * Y = X * v := by
  have e := ky_sg u v eX eY
  constructor
  · intro h
    rw [h, Int.mul_zero] at e
    omega
  · intro h
    have e2 : (g : Int) * (u * B - T * v) = 0 := by omega
    rcases Int.mul_eq_zero.mp e2 with z | z
    · exact absurd z (by omega)
    · exact z
/-- two arcs' reduced weights together -/
theorem ky_two (p q s t T B : Int) : p * B - T * s + (q * B - T * t) = (p + q) * B - T * (s + t) := by
  rw [Int.add_mul, Int.mul_add]
  omega
theorem ky_quo {g : Nat} {X T : Int} {b : Nat} (g0 : 0 < g) (eX : X = g * T) (hX : -(b : Int) ≤ X ∧ X ≤ b) : -(b : Int) ≤ T ∧ T ≤ b := by
  have h : T.natAbs ≤ X.natAbs := by
    rw [eX, Int.natAbs_mul]
    exact Nat.le_mul_of_pos_left _ (by omega)
  omega
theorem ky_quoP {g : Nat} {X T : Int} (g0 : 0 < g) (eX : X = g * T) (hX : 0 < X) : 0 < T := by
  rcases Int.lt_or_le 0 T with z | z
  · exact z
  · have h := Int.mul_nonneg (show (0 : Int) ≤ g by omega) (show 0 ≤ -T by omega)
    rw [Int.mul_neg] at h
    omega
/-- the ratio that findRatio leaves -/
def ky_RR (p q r s t o RT RB : Int) : Prop :=
  ((p + q) * o ≤ r * (s + t) ∧ ∃ g : Nat, g = Int.gcd (p + q) (s + t) ∧ 0 < g ∧ p + q = g * RT ∧ s + t = g * RB) ∨
  (r * (s + t) < (p + q) * o ∧ ∃ g : Nat, g = Int.gcd r o ∧ 0 < g ∧ r = g * RT ∧ o = g * RB)
section
variable {top bot : Int64} {a1 a2 a3 : Nat → Int32} {a4 a5 : Nat → Int64} {a6 a7 : Nat → Int32} {p q r s t o : Int}
theorem ky_findRatio {post : Int32 → St2 → Prop} (S : ky_S p q r s t o a1 a2 a3)
    (H : ∀ (RT RB : Int) (a5' : Nat → Int64) (a6' : Nat → Int32), ky_RR p q r s t o RT RB → (-40 ≤ RT ∧ RT ≤ 40) → (1 ≤ RB ∧ RB ≤ 10) → post 1 (4, ky_l RT, ky_l RB, a1, a2, a3, a4, a5', a6', a7)) :
    wpX_findRatio post (4, top, bot, a1, a2, a3, a4, a5, a6, a7) := by
  have S' := S
  obtain ⟨G, ⟨h9, h19, h14⟩, ⟨g9, g19, g14⟩, bp, bq, br, bs, bt, bo⟩ := S'
  have nar : narrow .boolean (.int (1 : Int32)) = .int 1 := by rfl
  refine ky_relax1 (T := 21) (B := 1) S (by decide) (by decide) (by omega) (by omega) (fun a5' a6' x hx => ?_)
  rcases hx with ⟨_, hx, c1, c3⟩ | ⟨z, _⟩ | ⟨z, _⟩
  · subst hx
    refine ⟨3, br_f (by decide) (ky_take13 S c1 c3 (fun g T B hg g0 eT eB => ?_))⟩
    have bT := ky_quo (b := 40) g0 eT (by omega)
    have bB := ky_quo (b := 10) g0 eB (by omega)
    have pB := ky_quoP g0 eB (by omega)
    have hz : (p + q) * B - T * (s + t) = 0 := (ky_sg0 (p + q) (s + t) g0 eT eB).mpr (by rw [eT, eB, Int.mul_comm])
    refine ky_relax1 (T := T) (B := B) S rfl rfl (by omega) (by omega) (fun a5' a6' x hx => ?_)
    have hN := ky_sgN r o g0 eT eB
    rcases hx with ⟨z, _⟩ | ⟨_, hC, hx, c2⟩ | ⟨_, hC, hx, _⟩
    · rw [ky_two] at z
      exact absurd z (by omega)
    · subst hx
      have hlt : r * (s + t) < (p + q) * o := hN.mp hC
      refine br_f (by decide) (ky_take2 S c2 (fun g T B hg g0 eT eB => ?_))
      have bT := ky_quo (b := 40) g0 eT (by omega)
      have bB := ky_quo (b := 10) g0 eB (by omega)
      have pB := ky_quoP g0 eB (by omega)
      have hz : r * B - T * o = 0 := (ky_sg0 r o g0 eT eB).mpr (by rw [eT, eB, Int.mul_comm])
      have hN2 := ky_sgN (p + q) (s + t) g0 eT eB
      refine ky_relax1 (T := T) (B := B) S rfl rfl (by omega) (by omega) (fun a5' a6' x hx => ?_)
      rcases hx with ⟨z, _⟩ | ⟨_, hC, _⟩ | ⟨_, _, hx, _⟩
      · rw [ky_two] at z
        exact absurd (hN2.mp z) (by omega)
      · exact absurd hC (by omega)
      · subst hx
        exact br_t (by decide) ⟨nar, H T B _ _ (Or.inr ⟨hlt, g, hg, g0, eT, eB⟩) (by omega) (by omega)⟩
    · subst hx
      have hge : (p + q) * o ≤ r * (s + t) := by
        rcases Int.lt_or_le (r * (s + t)) ((p + q) * o) with z | z
        · exact absurd (hN.mpr z) (by omega)
        · exact z
      exact br_t (by decide) ⟨nar, H T B _ _ (Or.inl ⟨hge, g, hg, g0, eT, eB⟩) (by omega) (by omega)⟩
  · exact absurd z (by omega)
  · exact absurd z (by omega)
end
end
section
/-! the mean: walks, offerMean, findMean -/
/-- the weights of the walks of length k that end at a point: the last arc weighs y, the one before it x -/
def ky_v (x y : Int) : Nat → Int
  | 0 => 0
  | 1 => y
  | 2 => x + y
  | 3 => x + 2 * y
  | _ => 2 * x + 2 * y
theorem ky_v_step (x y : Int) : ∀ k, k ≤ 3 → ky_v y x k + y = ky_v x y (k + 1) := by
  intro k hk
  match k, hk with
  | 0, _ => show 0 + y = y; omega
  | 1, _ => show x + y = x + y; omega
  | 2, _ => show y + x + y = x + 2 * y; omega
  | 3, _ => show y + 2 * x + y = 2 * x + 2 * y; omega
theorem ky_v_b {x y : Int} (bx : -20 ≤ x ∧ x ≤ 20) (bY : -20 ≤ y ∧ y ≤ 20) : ∀ k, k ≤ 4 → -1000 ≤ ky_v x y k ∧ ky_v x y k ≤ 1000 := by
  intro k hk
  match k, hk with
  | 0, _ => show -1000 ≤ (0 : Int) ∧ (0 : Int) ≤ 1000; omega
  | 1, _ => show -1000 ≤ y ∧ y ≤ 1000; omega
  | 2, _ => show -1000 ≤ x + y ∧ x + y ≤ 1000; omega
  | 3, _ => show -1000 ≤ x + 2 * y ∧ x + 2 * y ≤ 1000; omega
  | 4, _ => show -1000 ≤ 2 * x + 2 * y ∧ 2 * x + 2 * y ≤ 1000; omega
section
variable {pc : Int32} {top bot : Int64} {a1 a2 a3 : Nat → Int32} {a4 a5 : Nat → Int64} {a6 a7 : Nat → Int32} {w X : Int}
theorem ky_ext {post : St2 → Prop} {m u v : Nat} (hm : m ≤ 3) (hu : u < 6) (hv : v < 6) (hX : a4 (6 * m + u) = ky_l X) (hF : a4 (6 * m + 6 + v) = ky_l 1000000000) (bX : -1000 ≤ X ∧ X ≤ 1000) (bw : -20 ≤ w ∧ w ≤ 20)
    (H : post (pc, top, bot, a1, a2, a3, vp_updL a4 (6 * m + 6 + v) (ky_l (X + w)), a5, a6, a7)) :
    wpX_extendWalk post (pc, top, bot, a1, a2, a3, a4, a5, a6, a7) (nI (m + 1)) (nI u) (nI v) (ky_i w) := by
  have e1 : 6 * nI (m + 1) - 6 + nI u = nI (6 * m + u) := by
    show nI 6 * nI (m + 1) - nI 6 + nI u = nI (6 * m + u)
    rw [pk_mul, pk_sub (by omega), nI_add]
    congr 1
  have e2 : 6 * nI (m + 1) + nI v = nI (6 * m + 6 + v) := by
    show nI 6 * nI (m + 1) + nI v = nI (6 * m + 6 + v)
    rw [pk_mul, nI_add]
    congr 1
  have e3 : ky_l X + (ky_i w).toInt64 = ky_l (X + w) := by rw [ky_il (by omega), ky_ladd]
  have i1 : (nI (6 * m + u)).toNatClampNeg = 6 * m + u := nI_clamp (by omega)
  have i2 : (nI (6 * m + 6 + v)).toNatClampNeg = 6 * m + 6 + v := nI_clamp (by omega)
  unfold wpX_extendWalk
  dsimp only
  rw [e1, e2, i1, i2]
  refine ⟨pk_in (6 * m + u) 42 (by omega), nm_r hX ?_⟩
  rw [e3]
  refine ek_if (ky_lle (x := 1000000000) (y := X) (by decide) rfl) (fun z => absurd z (by omega)) (fun _ => ⟨pk_in (6 * m + 6 + v) 42 (by omega), ?_⟩)
  refine ek_if (ky_lle (x := 1000000000) (y := X + w) hF rfl) (fun z => absurd z (by omega)) (fun _ => ⟨pk_in (6 * m + 6 + v) 42 (by omega), nm_e H⟩)
end
section
variable {post : Int32 → St2 → Prop} {J : Int32 → Int32 → Int64 → Int64 → (Nat → Int32) → (Nat → Int32) → (Nat → Int32) → (Nat → Int64) → (Nat → Int64) → (Nat → Int32) → (Nat → Int32) → Prop} {pc x1 : Int32} {top bot : Int64} {a1 a2 a3 : Nat → Int32} {a4 a5 : Nat → Int64} {a6 a7 : Nat → Int32} {p q r s t o w X : Int}
theorem ky_m45_skip {n : Nat} : ∀ (d j : Nat), j + d ≤ 36 → (∀ i, i < d → a1 (j + i) = 0) → wX_findMean_45 post J x1 n (nI (j + d)) pc top bot a1 a2 a3 a4 a5 a6 a7 → wX_findMean_45 post J x1 (n + d) (nI j) pc top bot a1 a2 a3 a4 a5 a6 a7 := by
  intro d
  induction d with
  | zero => intro j _ _ h; exact h
  | succ d ih =>
    intro j hj h0 h
    have h' : wX_findMean_45 post J x1 (n + d) (nI (j + 1)) pc top bot a1 a2 a3 a4 a5 a6 a7 := ih (j + 1) (by omega) (fun i hi => by rw [show j + 1 + i = j + (i + 1) by omega]; exact h0 (i + 1) (by omega)) (by rw [show j + 1 + d = j + (d + 1) by omega]; exact h)
    have hz : a1 j = 0 := h0 0 (by omega)
    exact pk_le 36 j (fun z => absurd z (by omega)) (fun _ => ⟨pk_in j 36 (by omega), br_t (by rw [nI_clamp (by omega)]; exact hz) (nm_r (nI_1 j) h')⟩)
theorem ky_m45_arc {n m : Nat} (k u v : Nat) (hm : m ≤ 3) (hk : k < 36) (hu : k / 6 = u) (hv : k % 6 = v) (h1 : a1 k = 1) (h2 : a2 k = ky_i w) (bw : -20 ≤ w ∧ w ≤ 20) (hX : a4 (6 * m + u) = ky_l X) (bX : -1000 ≤ X ∧ X ≤ 1000) (hF : a4 (6 * m + 6 + v) = ky_l 1000000000)
    (H : wX_findMean_45 post J (nI (m + 1)) n (nI (k + 1)) pc top bot a1 a2 a3 (vp_updL a4 (6 * m + 6 + v) (ky_l (X + w))) a5 a6 a7) :
    wX_findMean_45 post J (nI (m + 1)) (n + 1) (nI k) pc top bot a1 a2 a3 a4 a5 a6 a7 := by
  have q6 : nI k / 6 = nI u := by rw [← hu]; exact pk_div (d := 6) (by omega) (by omega) (by omega)
  have r6 : nI k - nI k / 6 * 6 = nI v := by rw [← hv]; exact pk_rem (d := 6) (by omega) (by omega) (by omega)
  refine pk_le 36 k (fun z => absurd z (by omega)) (fun _ => ⟨pk_in k 36 hk, br_f ?_ ⟨by decide, by decide, pk_in k 36 hk, ?_⟩⟩)
  · rw [nI_clamp (by omega), h1]; decide
  · rw [r6, q6, nI_clamp (by omega), h2]
    exact ky_ext hm (by omega) (by omega) hX hF bX bw (nm_r (nI_1 k) H)
theorem ky_m45_end {n : Nat} (h : J (x1 + 1) pc top bot a1 a2 a3 a4 a5 a6 a7) : wX_findMean_45 post J x1 (n + 1) (nI 36) pc top bot a1 a2 a3 a4 a5 a6 a7 :=
  pk_le 36 36 (fun _ => nm_e h) (fun z => absurd z (by omega))
theorem ky_len {m : Nat} {X1 X2 X3 : Int} (S : ky_S p q r s t o a1 a2 a3) (hm : m ≤ 3) (h1 : a4 (6 * m + 1) = ky_l X1) (h2 : a4 (6 * m + 2) = ky_l X2) (h3 : a4 (6 * m + 3) = ky_l X3)
    (b1 : -1000 ≤ X1 ∧ X1 ≤ 1000) (b2 : -1000 ≤ X2 ∧ X2 ≤ 1000) (b3 : -1000 ≤ X3 ∧ X3 ≤ 1000)
    (f1 : a4 (6 * m + 6 + 1) = ky_l 1000000000) (f2 : a4 (6 * m + 6 + 2) = ky_l 1000000000) (f3 : a4 (6 * m + 6 + 3) = ky_l 1000000000)
    (H : J (nI (m + 1) + 1) pc top bot a1 a2 a3 (vp_updL (vp_updL (vp_updL a4 (6 * m + 6 + 3) (ky_l (X1 + p))) (6 * m + 6 + 2) (ky_l (X2 + r))) (6 * m + 6 + 1) (ky_l (X3 + q))) a5 a6 a7) :
    ∃ n, wX_findMean_45 post J (nI (m + 1)) n 0 pc top bot a1 a2 a3 a4 a5 a6 a7 := by
  obtain ⟨G, ⟨h9, h19, h14⟩, ⟨g9, g19, g14⟩, bp, bq, br, bs, bt, bo⟩ := S
  refine ⟨37, ky_m45_skip (n := 28) 9 0 (by omega) (fun i hi => G.2.2.2 _ (by omega) (by omega) (by omega)) ?_⟩
  refine ky_m45_arc (n := 27) 9 1 3 hm (by omega) rfl rfl G.1 h9 bp h1 b1 f3 ?_
  refine ky_m45_skip (n := 23) 4 10 (by omega) (fun i hi => G.2.2.2 _ (by omega) (by omega) (by omega)) ?_
  refine ky_m45_arc (n := 22) (X := X2) 14 2 2 hm (by omega) rfl rfl G.2.1 h14 br (by rw [pk_uLn (by omega)]; exact h2) b2 (by rw [pk_uLn (by omega)]; exact f2) ?_
  refine ky_m45_skip (n := 18) 4 15 (by omega) (fun i hi => G.2.2.2 _ (by omega) (by omega) (by omega)) ?_
  refine ky_m45_arc (n := 17) (X := X3) 19 3 1 hm (by omega) rfl rfl G.2.2.1 h19 bq (by rw [pk_uLn (by omega), pk_uLn (by omega)]; exact h3) b3 (by rw [pk_uLn (by omega), pk_uLn (by omega)]; exact f1) ?_
  exact ky_m45_skip (n := 1) 16 20 (by omega) (fun i hi => G.2.2.2 _ (by omega) (by omega) (by omega)) (ky_m45_end H)
/-- the walks of the lengths below l are there -/
def ky_MI (p q r : Int) (l : Nat) (a4 : Nat → Int64) : Prop := a4 24 = ky_l 1000000000 ∧
  (∀ k, k < l → a4 (6 * k + 1) = ky_l (ky_v p q k) ∧ a4 (6 * k + 2) = ky_l (ky_v r r k) ∧ a4 (6 * k + 3) = ky_l (ky_v q p k)) ∧
  (∀ k, l ≤ k → k ≤ 4 → a4 (6 * k + 1) = ky_l 1000000000 ∧ a4 (6 * k + 2) = ky_l 1000000000 ∧ a4 (6 * k + 3) = ky_l 1000000000)
theorem ky_MI_step {m : Nat} (hm : m ≤ 3) (h : ky_MI p q r (m + 1) a4) : ky_MI p q r (m + 1 + 1) (vp_updL (vp_updL (vp_updL a4 (6 * m + 6 + 3) (ky_l (ky_v p q m + p))) (6 * m + 6 + 2) (ky_l (ky_v r r m + r))) (6 * m + 6 + 1) (ky_l (ky_v q p m + q))) := by
  obtain ⟨h0, h1, h2⟩ := h
  refine ⟨?_, fun k hk => ?_, fun k hk hk4 => ?_⟩
  · rw [pk_uLn (by omega), pk_uLn (by omega), pk_uLn (by omega)]
    exact h0
  · by_cases e : k = m + 1
    · subst e
      rw [show 6 * (m + 1) + 1 = 6 * m + 6 + 1 by omega, show 6 * (m + 1) + 2 = 6 * m + 6 + 2 by omega, show 6 * (m + 1) + 3 = 6 * m + 6 + 3 by omega]
      refine ⟨?_, ?_, ?_⟩
      · rw [pk_uLs, ky_v_step p q m hm]
      · rw [pk_uLn (by omega), pk_uLs, ky_v_step r r m hm]
      · rw [pk_uLn (by omega), pk_uLn (by omega), pk_uLs, ky_v_step q p m hm]
    · have hh := h1 k (by omega)
      refine ⟨?_, ?_, ?_⟩
      · rw [pk_uLn (by omega), pk_uLn (by omega), pk_uLn (by omega)]; exact hh.1
      · rw [pk_uLn (by omega), pk_uLn (by omega), pk_uLn (by omega)]; exact hh.2.1
      · rw [pk_uLn (by omega), pk_uLn (by omega), pk_uLn (by omega)]; exact hh.2.2
  · have hh := h2 k (by omega) hk4
    refine ⟨?_, ?_, ?_⟩
    · rw [pk_uLn (by omega), pk_uLn (by omega), pk_uLn (by omega)]; exact hh.1
    · rw [pk_uLn (by omega), pk_uLn (by omega), pk_uLn (by omega)]; exact hh.2.1
    · rw [pk_uLn (by omega), pk_uLn (by omega), pk_uLn (by omega)]; exact hh.2.2
theorem ky_m35 (S : ky_S p q r s t o a1 a2 a3) (h : ky_MI p q r 1 a4)
    (H : ∀ a4' : Nat → Int64, ky_MI p q r 5 a4' → ∃ n, wX_findMean_95 post n 0 0 4 top bot a1 a2 a3 a4' a5 a6 a7) :
    ∃ n, wX_findMean_35 post n 1 4 top bot a1 a2 a3 a4 a5 a6 a7 :=
  pk_loop (σ := Nat → Int64) (fun n i s => wX_findMean_35 post n (nI i) 4 top bot a1 a2 a3 s a5 a6 a7) (fun i s => 1 ≤ i ∧ ky_MI p q r i s) 5 1 a4 (by omega) ⟨by omega, h⟩
    (fun n s hs => pk_lt 4 5 (fun _ => H s hs.2) (fun z => absurd z (by omega)))
    (fun n i s5 hi hs hw => by
      obtain ⟨m, rfl⟩ : ∃ m, i = m + 1 := ⟨i - 1, by omega⟩
      obtain ⟨_, hI⟩ := hs
      have hS := S
      obtain ⟨G, _, _, bp, bq, br, bs, bt, bo⟩ := hS
      have g1 := hI.2.1 m (by omega)
      have g2 := hI.2.2 (m + 1) (by omega) (by omega)
      refine pk_lt 4 (m + 1) (fun z => absurd z (by omega)) (fun _ => ky_len S (by omega) g1.1 g1.2.1 g1.2.2 (ky_v_b bp bq m (by omega)) (ky_v_b br br m (by omega)) (ky_v_b bq bp m (by omega)) g2.1 g2.2.1 g2.2.2 ?_)
      rw [nI_1]
      exact hw _ ⟨by omega, ky_MI_step (by omega) hI⟩)
theorem ky_m2 (H : ∀ a4' : Nat → Int64, ky_MI p q r 1 a4' → ∃ n, wX_findMean_35 post n 1 4 top bot a1 a2 a3 a4' a5 a6 a7) : wpX_findMean post (4, top, bot, a1, a2, a3, a4, a5, a6, a7) :=
  pk_loop (σ := Nat → Int64) (fun n i s => wX_findMean_2 post 4 top bot n (nI i) a1 a2 a3 s a5 a6 a7) (fun i s => ∀ j, j < i → s j = if j < 6 then ky_l 0 else ky_l 1000000000) 42 0 a4 (by omega)
    (fun j hj => absurd hj (by omega))
    (fun n s h => pk_le 42 42 (fun _ => H s ⟨h 24 (by omega), fun k hk => by
        have e : k = 0 := by omega
        subst e
        exact ⟨h 1 (by omega), h 2 (by omega), h 3 (by omega)⟩, fun k hk hk4 => by
        refine ⟨?_, ?_, ?_⟩
        · rw [h _ (by omega), if_neg (by omega)]
        · rw [h _ (by omega), if_neg (by omega)]
        · rw [h _ (by omega), if_neg (by omega)]⟩) (fun z => absurd z (by omega)))
    (fun n i s hi h hw => by
      have st : ∀ x : Int64, (x = if i < 6 then ky_l 0 else ky_l 1000000000) → wX_findMean_2 post 4 top bot n (nI (i + 1)) a1 a2 a3 (vp_updL s i x) a5 a6 a7 := by
        intro x hx
        refine hw _ (fun j hj => ?_)
        by_cases e : j = i
        · subst e
          rw [pk_uLs]
          exact hx
        · rw [pk_uLn e]
          exact h j (by omega)
      refine pk_le 42 i (fun z => absurd z (by omega)) (fun _ => pk_le 6 i (fun z => ⟨pk_in i 42 hi, nm_r (e' := vp_updL s i 1000000000) (by rw [nI_clamp (by omega)]) (nm_r (nI_1 i) (st _ ?_))⟩) (fun z => ⟨pk_in i 42 hi, nm_r (e' := vp_updL s i 0) (by rw [nI_clamp (by omega)]) (nm_r (nI_1 i) (st _ ?_))⟩))
      · rw [if_neg (by omega)]; decide
      · rw [if_pos (by omega)]; decide)
end
end
section
/-! offerMean, and findMean whole -/
section
variable {post : St2 → Prop} {x2 : Int32} {top bot : Int64} {a1 a2 a3 : Nat → Int32} {a4 a5 : Nat → Int64} {a6 a7 : Nat → Int32} {F X Y w x y : Int}
theorem ky_ix (k v : Nat) : 6 * nI k + nI v = nI (6 * k + v) := by
  show nI 6 * nI k + nI v = nI (6 * k + v)
  rw [pk_mul, nI_add]
theorem ky_of_step {v k c n : Nat} (hk : k + c = 4) (hc : 1 ≤ c) (hv : v < 6) (hw : a4 (6 * k + v) = ky_l w) (bw : -1000 ≤ w ∧ w ≤ 1000) (bF : -1000 ≤ F ∧ F ≤ 1000) (bX : -10000 ≤ X ∧ X ≤ 10000) (bY : 1 ≤ Y ∧ Y ≤ 10)
    (ht : X * c < (F - w) * Y → wX_offerMean_24 post (nI v) x2 (ky_l F) 4 top bot a1 a2 a3 a4 a5 a6 a7 n (ky_l (F - w)) (ky_l c) (nI (k + 1)))
    (hf : ¬ X * c < (F - w) * Y → wX_offerMean_24 post (nI v) x2 (ky_l F) 4 top bot a1 a2 a3 a4 a5 a6 a7 n (ky_l X) (ky_l Y) (nI (k + 1))) :
    wX_offerMean_24 post (nI v) x2 (ky_l F) 4 top bot a1 a2 a3 a4 a5 a6 a7 (n + 1) (ky_l X) (ky_l Y) (nI k) := by
  have ec : ((4 : Int32) - nI k).toInt64 = ky_l c := by
    show (nI 4 - nI k).toInt64 = ky_l c
    rw [pk_sub (by omega), nI_l (by omega), ky_lN, show 4 - k = c by omega]
  have m1 := ky_bm (x := X) (y := (c : Int)) 10000 4 (by omega) (by omega)
  have m2 := ky_bm (x := F - w) (y := Y) 2000 10 (by omega) (by omega)
  have y0 : ¬ ky_l Y = 0 := fun z => absurd ((ky_leq (x := Y) (y := 0) rfl ky_l0).mp z) (by omega)
  refine pk_le 4 k (fun z => absurd z (by omega)) (fun _ => ?_)
  rw [ky_ix]
  refine ⟨pk_in (6 * k + v) 42 (by omega), nm_r (e' := ky_l w) (by rw [nI_clamp (by omega)]; exact hw) (ek_if (ky_llt (x := w) (y := 1000000000) rfl (by decide)) (fun _ => nm_r (ky_lsub F w) (nm_r ec (br_f y0 ?_))) (fun z => absurd z (by omega)))⟩
  exact ek_if (ky_llt (x := X * c) (y := (F - w) * Y) (ky_lmul _ _) (ky_lmul _ _)) (fun z => nm_r (nI_1 k) (ht z)) (fun z => nm_r (nI_1 k) (hf z))
theorem ky_of_first {v n : Nat} (hv : v < 6) (hw : a4 v = ky_l w) (bw : -1000 ≤ w ∧ w ≤ 1000)
    (H : wX_offerMean_24 post (nI v) x2 (ky_l F) 4 top bot a1 a2 a3 a4 a5 a6 a7 n (ky_l (F - w)) (ky_l 4) (nI 1)) :
    wX_offerMean_24 post (nI v) x2 (ky_l F) 4 top bot a1 a2 a3 a4 a5 a6 a7 (n + 1) 0 0 (nI 0) := by
  refine pk_le 4 0 (fun z => absurd z (by omega)) (fun _ => ?_)
  rw [ky_ix]
  refine ⟨pk_in (6 * 0 + v) 42 (by omega), nm_r (e' := ky_l w) (by rw [nI_clamp (by omega), show 6 * 0 + v = v by omega]; exact hw) (ek_if (ky_llt (x := w) (y := 1000000000) rfl (by decide)) (fun _ => nm_r (ky_lsub F w) (nm_r (e' := ky_l 4) (by decide) (br_t rfl (nm_r (nI_1 0) H)))) (fun z => absurd z (by omega)))⟩
theorem ky_offer24 {v : Nat} (hv : v < 6) (bx : -20 ≤ x ∧ x ≤ 20) (bY : -20 ≤ y ∧ y ≤ 20) (hw : ∀ k, k ≤ 4 → a4 (6 * k + v) = ky_l (ky_v x y k))
    (H : ∀ X Y : Int, ((x ≤ y ∧ X = 2 * x + 2 * y ∧ Y = 4) ∨ (y < x ∧ X = x ∧ Y = 1)) → wX_offerMean_24 post (nI v) x2 (ky_l (2 * x + 2 * y)) 4 top bot a1 a2 a3 a4 a5 a6 a7 1 (ky_l X) (ky_l Y) (nI 4)) :
    wpX_offerMean post (4, top, bot, a1, a2, a3, a4, a5, a6, a7) (nI v) x2 := by
  have e : 6 * (4 : Int32) + nI v = nI (6 * 4 + v) := ky_ix 4 v
  have w0 : a4 v = ky_l 0 := by
    have h := hw 0 (by omega)
    rw [show 6 * 0 + v = v by omega] at h
    exact h
  have w1 : a4 (6 * 1 + v) = ky_l y := hw 1 (by omega)
  have w2 : a4 (6 * 2 + v) = ky_l (x + y) := hw 2 (by omega)
  have w3 : a4 (6 * 3 + v) = ky_l (x + 2 * y) := hw 3 (by omega)
  have w4 : a4 (6 * 4 + v) = ky_l (2 * x + 2 * y) := hw 4 (by omega)
  unfold wpX_offerMean
  dsimp only
  rw [e]
  refine ⟨pk_in (6 * 4 + v) 42 (by omega), nm_r (e' := ky_l (2 * x + 2 * y)) (by rw [nI_clamp (by omega)]; exact w4) ⟨5, ?_⟩⟩
  refine ky_of_first hv w0 (by omega) ?_
  refine ky_of_step (k := 1) (c := 3) (by omega) (by omega) hv w1 (by omega) (by omega) (by omega) (by omega) (fun z1 => ?_) (fun z1 => ?_)
  · refine ky_of_step (k := 2) (c := 2) (by omega) (by omega) hv w2 (by omega) (by omega) (by omega) (by omega) (fun z2 => ?_) (fun z2 => ?_)
    · exact absurd z2 (by omega)
    · refine ky_of_step (k := 3) (c := 1) (by omega) (by omega) hv w3 (by omega) (by omega) (by omega) (by omega) (fun z3 => ?_) (fun z3 => ?_)
      · exact H _ _ (Or.inr ⟨by omega, by omega, by omega⟩)
      · exact absurd z3 (by omega)
  · refine ky_of_step (k := 2) (c := 2) (by omega) (by omega) hv w2 (by omega) (by omega) (by omega) (by omega) (fun z2 => ?_) (fun z2 => ?_)
    · exact absurd z2 (by omega)
    · refine ky_of_step (k := 3) (c := 1) (by omega) (by omega) hv w3 (by omega) (by omega) (by omega) (by omega) (fun z3 => ?_) (fun z3 => ?_)
      · exact absurd z3 (by omega)
      · exact H _ _ (Or.inl ⟨by omega, by omega, by omega⟩)
end
section
variable {post : Int32 → St2 → Prop} {x1 : Int32} {top bot : Int64} {a1 a2 a3 : Nat → Int32} {a4 a5 : Nat → Int64} {a6 a7 : Nat → Int32} {T B x y p q r s t o : Int}
theorem ky_m95_skip {v n : Nat} (hv : v < 4) (hF : a4 (6 * 4 + v) = ky_l 1000000000) (h : wX_findMean_95 post n x1 (nI (v + 1)) 4 top bot a1 a2 a3 a4 a5 a6 a7) :
    wX_findMean_95 post (n + 1) x1 (nI v) 4 top bot a1 a2 a3 a4 a5 a6 a7 := by
  have e : 6 * (4 : Int32) + nI v = nI (6 * 4 + v) := ky_ix 4 v
  refine pk_le 4 v (fun z => absurd z (by omega)) (fun _ => ?_)
  rw [e]
  exact ⟨pk_in (6 * 4 + v) 42 (by omega), ek_if (ky_llt (x := 1000000000) (y := 1000000000) (by rw [nI_clamp (by omega)]; exact hF) (by decide)) (fun z => absurd z (by omega)) (fun _ => nm_r (nI_1 v) h)⟩
theorem ky_m95_o0 {v n : Nat} (hv : v < 4) (bx : -20 ≤ x ∧ x ≤ 20) (bY : -20 ≤ y ∧ y ≤ 20) (hw : ∀ k, k ≤ 4 → a4 (6 * k + v) = ky_l (ky_v x y k))
    (H : ∀ X Y : Int, ((x ≤ y ∧ X = 2 * x + 2 * y ∧ Y = 4) ∨ (y < x ∧ X = x ∧ Y = 1)) → wX_findMean_95 post n 1 (nI (v + 1)) 4 (ky_l X) (ky_l Y) a1 a2 a3 a4 a5 a6 a7) :
    wX_findMean_95 post (n + 1) 0 (nI v) 4 top bot a1 a2 a3 a4 a5 a6 a7 := by
  have e : 6 * (4 : Int32) + nI v = nI (6 * 4 + v) := ky_ix 4 v
  have w4 : a4 (6 * 4 + v) = ky_l (2 * x + 2 * y) := hw 4 (by omega)
  refine pk_le 4 v (fun z => absurd z (by omega)) (fun _ => ?_)
  rw [e]
  exact ⟨pk_in (6 * 4 + v) 42 (by omega), ek_if (ky_llt (x := 2 * x + 2 * y) (y := 1000000000) (by rw [nI_clamp (by omega)]; exact w4) (by decide)) (fun _ => ky_offer24 (by omega) bx bY hw (fun X Y d => pk_le 4 4 (fun _ => br_t rfl (nm_r (nI_1 v) (H X Y d))) (fun z => absurd z (by omega)))) (fun z => absurd z (by omega))⟩
theorem ky_m95_o1 {v n : Nat} (hv : v < 4) (bx : -20 ≤ x ∧ x ≤ 20) (bY : -20 ≤ y ∧ y ≤ 20) (bT : -1000 ≤ T ∧ T ≤ 1000) (bB : 1 ≤ B ∧ B ≤ 10) (hw : ∀ k, k ≤ 4 → a4 (6 * k + v) = ky_l (ky_v x y k))
    (Ht : ∀ X Y : Int, ((x ≤ y ∧ X = 2 * x + 2 * y ∧ Y = 4) ∨ (y < x ∧ X = x ∧ Y = 1)) → X * B < T * Y → wX_findMean_95 post n 1 (nI (v + 1)) 4 (ky_l X) (ky_l Y) a1 a2 a3 a4 a5 a6 a7)
    (Hf : ∀ X Y : Int, ((x ≤ y ∧ X = 2 * x + 2 * y ∧ Y = 4) ∨ (y < x ∧ X = x ∧ Y = 1)) → ¬ X * B < T * Y → wX_findMean_95 post n 1 (nI (v + 1)) 4 (ky_l T) (ky_l B) a1 a2 a3 a4 a5 a6 a7) :
    wX_findMean_95 post (n + 1) 1 (nI v) 4 (ky_l T) (ky_l B) a1 a2 a3 a4 a5 a6 a7 := by
  have e : 6 * (4 : Int32) + nI v = nI (6 * 4 + v) := ky_ix 4 v
  have w4 : a4 (6 * 4 + v) = ky_l (2 * x + 2 * y) := hw 4 (by omega)
  refine pk_le 4 v (fun z => absurd z (by omega)) (fun _ => ?_)
  rw [e]
  refine ⟨pk_in (6 * 4 + v) 42 (by omega), ek_if (ky_llt (x := 2 * x + 2 * y) (y := 1000000000) (by rw [nI_clamp (by omega)]; exact w4) (by decide)) (fun _ => ky_offer24 (by omega) bx bY hw (fun X Y d => pk_le 4 4 (fun _ => br_f (by decide) ?_) (fun z => absurd z (by omega)))) (fun z => absurd z (by omega))⟩
  have m1 := ky_bm (x := X) (y := B) 1000 10 (by omega) (by omega)
  have m2 := ky_bm (x := T) (y := Y) 1000 10 (by omega) (by omega)
  exact ek_if (ky_llt (x := X * B) (y := T * Y) (ky_lmul _ _) (ky_lmul _ _)) (fun z => nm_r (nI_1 v) (Ht X Y d z)) (fun z => nm_r (nI_1 v) (Hf X Y d z))
end
/-- the mean that findMean leaves -/
def ky_MM (p q r MT MB : Int) : Prop :=
  (p + q ≤ 2 * r ∧ ((∃ m : Int, p + q = 2 * m ∧ MT = m ∧ MB = 1) ∨ (∃ m : Int, p + q = 2 * m + 1 ∧ MT = p + q ∧ MB = 2))) ∨ (2 * r < p + q ∧ MT = r ∧ MB = 1)
theorem ky_g4 (m : Int) : Int.gcd (4 * m) 4 = 4 := by
  rw [Int.mul_comm]
  exact Int.gcd_mul_left_left m 4
theorem ky_g2 (m : Int) : Int.gcd (2 * (2 * m + 1)) 4 = 2 := by
  have h := Int.gcd_mul_left 2 (2 * m + 1) 2
  rw [Int.gcd_mul_left_add_left 2 1 m] at h
  exact h
theorem ky_mm {p q r X Y T B : Int} {g : Nat} (d : (X = 4 * r ∧ Y = 4 ∧ 2 * r ≤ p + q) ∨ (X = 2 * (p + q) ∧ Y = 4 ∧ p + q ≤ 2 * r)) (hg : g = Int.gcd X Y) (eT : X = g * T) (eB : Y = g * B) : ky_MM p q r T B := by
  rcases d with ⟨hX, hY, hc⟩ | ⟨hX, hY, hc⟩
  · have h4 : g = 4 := by rw [hg, hX, hY]; exact ky_g4 r
    subst h4
    rcases Int.lt_or_le (2 * r) (p + q) with z | z
    · exact Or.inr ⟨z, by omega, by omega⟩
    · exact Or.inl ⟨z, Or.inl ⟨r, by omega, by omega, by omega⟩⟩
  · have par : (p + q) % 2 = 0 ∨ (p + q) % 2 = 1 := by omega
    rcases par with z | z
    · have e : p + q = 2 * ((p + q) / 2) := by omega
      have h4 : g = 4 := by
        rw [hg, hX, hY, e, show (2 : Int) * (2 * ((p + q) / 2)) = 4 * ((p + q) / 2) by omega]
        exact ky_g4 _
      subst h4
      exact Or.inl ⟨hc, Or.inl ⟨(p + q) / 2, e, by omega, by omega⟩⟩
    · have e : p + q = 2 * ((p + q) / 2) + 1 := by omega
      have h2 : g = 2 := by
        rw [hg, hX, hY, e]
        exact ky_g2 _
      subst h2
      exact Or.inl ⟨hc, Or.inr ⟨(p + q) / 2, e, by omega, by omega⟩⟩
section
variable {post : Int32 → St2 → Prop} {top bot : Int64} {a1 a2 a3 : Nat → Int32} {a4 a5 : Nat → Int64} {a6 a7 : Nat → Int32} {p q r s t o : Int}
theorem ky_findMean (S : ky_S p q r s t o a1 a2 a3)
    (H : ∀ (MT MB : Int) (a4' : Nat → Int64), ky_MM p q r MT MB → (-40 ≤ MT ∧ MT ≤ 40) → (1 ≤ MB ∧ MB ≤ 10) → post 1 (4, ky_l MT, ky_l MB, a1, a2, a3, a4', a5, a6, a7)) :
    wpX_findMean post (4, top, bot, a1, a2, a3, a4, a5, a6, a7) := by
  have S' := S
  obtain ⟨G, _, _, bp, bq, br, bs, bt, bo⟩ := S'
  have nar : narrow .boolean (.int (1 : Int32)) = .int 1 := by rfl
  refine ky_m2 (p := p) (q := q) (r := r) (fun a4' h1 => ky_m35 S h1 (fun a4'' h5 => ⟨5, ?_⟩))
  have fin : ∀ X Y : Int, ((X = 4 * r ∧ Y = 4 ∧ 2 * r ≤ p + q) ∨ (X = 2 * (p + q) ∧ Y = 4 ∧ p + q ≤ 2 * r)) → wX_findMean_95 post 1 1 (nI 4) 4 (ky_l X) (ky_l Y) a1 a2 a3 a4'' a5 a6 a7 := by
    intro X Y d
    refine pk_le 4 4 (fun _ => br_f (by decide) (ky_lowest (by omega) (by omega) (fun g T B hg g0 eT eB => ⟨nar, ?_⟩))) (fun z => absurd z (by omega))
    have mm := ky_mm d hg eT eB
    have bb : (-40 ≤ T ∧ T ≤ 40) ∧ (1 ≤ B ∧ B ≤ 10) := by
      rcases mm with ⟨z, ⟨m, e1, e2, e3⟩ | ⟨m, e1, e2, e3⟩⟩ | ⟨z, e2, e3⟩ <;> omega
    exact H T B a4'' mm bb.1 bb.2
  refine ky_m95_skip (v := 0) (by omega) h5.1 ?_
  refine ky_m95_o0 (v := 1) (by omega) bp bq (fun k hk => (h5.2.1 k (by omega)).1) (fun X1 Y1 d1 => ?_)
  have w2 : ∀ k, k ≤ 4 → a4'' (6 * k + 2) = ky_l (ky_v r r k) := fun k hk => (h5.2.1 k (by omega)).2.1
  have w3 : ∀ k, k ≤ 4 → a4'' (6 * k + 3) = ky_l (ky_v q p k) := fun k hk => (h5.2.1 k (by omega)).2.2
  rcases d1 with ⟨c1, rfl, rfl⟩ | ⟨c1, rfl, rfl⟩
  · refine ky_m95_o1 (v := 2) (by omega) br br (by omega) (by omega) w2 (fun X2 Y2 d2 z2 => ?_) (fun X2 Y2 d2 z2 => ?_)
    · rcases d2 with ⟨c2, rfl, rfl⟩ | ⟨c2, rfl, rfl⟩
      · refine ky_m95_o1 (v := 3) (by omega) bq bp (by omega) (by omega) w3 (fun X3 Y3 d3 z3 => ?_) (fun X3 Y3 d3 z3 => ?_)
        · rcases d3 with ⟨c3, rfl, rfl⟩ | ⟨c3, rfl, rfl⟩
          · exact fin _ _ (by omega)
          · exact fin _ _ (by omega)
        · rcases d3 with ⟨c3, rfl, rfl⟩ | ⟨c3, rfl, rfl⟩
          · exact fin _ _ (by omega)
          · exact fin _ _ (by omega)
      · exact absurd c2 (by omega)
    · rcases d2 with ⟨c2, rfl, rfl⟩ | ⟨c2, rfl, rfl⟩
      · refine ky_m95_o1 (v := 3) (by omega) bq bp (by omega) (by omega) w3 (fun X3 Y3 d3 z3 => ?_) (fun X3 Y3 d3 z3 => ?_)
        · rcases d3 with ⟨c3, rfl, rfl⟩ | ⟨c3, rfl, rfl⟩
          · exact fin _ _ (by omega)
          · exact fin _ _ (by omega)
        · rcases d3 with ⟨c3, rfl, rfl⟩ | ⟨c3, rfl, rfl⟩
          · exact fin _ _ (by omega)
          · exact fin _ _ (by omega)
      · exact absurd c2 (by omega)
  · refine ky_m95_o1 (v := 2) (by omega) br br (by omega) (by omega) w2 (fun X2 Y2 d2 z2 => ?_) (fun X2 Y2 d2 z2 => ?_)
    · rcases d2 with ⟨c2, rfl, rfl⟩ | ⟨c2, rfl, rfl⟩
      · refine ky_m95_o1 (v := 3) (by omega) bq bp (by omega) (by omega) w3 (fun X3 Y3 d3 z3 => ?_) (fun X3 Y3 d3 z3 => ?_)
        · rcases d3 with ⟨c3, rfl, rfl⟩ | ⟨c3, rfl, rfl⟩
          · exact fin _ _ (by omega)
          · exact fin _ _ (by omega)
        · rcases d3 with ⟨c3, rfl, rfl⟩ | ⟨c3, rfl, rfl⟩
          · exact fin _ _ (by omega)
          · exact fin _ _ (by omega)
      · exact absurd c2 (by omega)
    · rcases d2 with ⟨c2, rfl, rfl⟩ | ⟨c2, rfl, rfl⟩
      · refine ky_m95_o1 (v := 3) (by omega) bq bp (by omega) (by omega) w3 (fun X3 Y3 d3 z3 => ?_) (fun X3 Y3 d3 z3 => ?_)
        · rcases d3 with ⟨c3, rfl, rfl⟩ | ⟨c3, rfl, rfl⟩
          · exact fin _ _ (by omega)
          · exact fin _ _ (by omega)
        · rcases d3 with ⟨c3, rfl, rfl⟩ | ⟨c3, rfl, rfl⟩
          · exact fin _ _ (by omega)
          · exact fin _ _ (by omega)
      · exact absurd c2 (by omega)
end
end
section
/-! reach: the rows of the tight arcs (or of all arcs), their closing, the points on a circle -/
/-- which arcs count: 9, 14 and 19, each by its own bit -/
def ky_tt (t9 t14 t19 : Bool) (k : Nat) : Bool := (k == 9 && t9) || (k == 14 && t14) || (k == 19 && t19)
/-- row u of reach after v columns -/
def ky_row (tt : Nat → Bool) (u : Nat) : Nat → Int32
  | 0 => 0
  | v + 1 => if tt (6 * u + v) then ky_row tt u v ||| ((1 : Int32) <<< (nI v &&& 31)) else ky_row tt u v
/-- reach after m middles -/
def ky_R (t9 t14 t19 : Bool) (m j : Nat) : Int32 :=
  if j = 1 then (if t9 then (if t19 && decide (4 ≤ m) then 10 else 8) else 0)
  else if j = 2 then (if t14 then 4 else 0)
  else if j = 3 then (if t19 then (if t9 && decide (2 ≤ m) then 10 else 2) else 0)
  else 0
theorem ky_R0 : ∀ t9 t14 t19 : Bool, ∀ j, j < 6 → ky_row (ky_tt t9 t14 t19) j 6 = ky_R t9 t14 t19 0 j := by decide +kernel
theorem ky_Rt : ∀ t9 t14 t19 : Bool, ∀ m, m < 6 → ∀ u, u < 6 → (((ky_R t9 t14 t19 m u) >>> (nI m &&& 31)) &&& 1) = 0 → ky_R t9 t14 t19 (m + 1) u = ky_R t9 t14 t19 m u := by decide +kernel
theorem ky_Rf : ∀ t9 t14 t19 : Bool, ∀ m, m < 6 → ∀ u, u < 6 → ¬ (((ky_R t9 t14 t19 m u) >>> (nI m &&& 31)) &&& 1) = 0 → ky_R t9 t14 t19 (m + 1) u = ky_R t9 t14 t19 m u ||| (if m < u then ky_R t9 t14 t19 (m + 1) m else ky_R t9 t14 t19 m m) := by decide +kernel
/-- the points on a circle -/
def ky_oc (M : Nat → Int32) : Nat → Int32
  | 0 => 0
  | u + 1 => if (((M u) >>> (nI u &&& 31)) &&& 1) = 0 then ky_oc M u else ky_oc M u ||| ((1 : Int32) <<< (nI u &&& 31))
theorem ky_ocE : ∀ t9 t14 t19 : Bool, ky_oc (ky_R t9 t14 t19 6) 4 = (if t9 && t19 then 10 else 0) + (if t14 then 4 else 0) := by decide +kernel
theorem ky_cl3 : ∀ t9 t14 t19 : Bool, (((ky_R t9 t14 t19 6 1) >>> ((3 : Int32) &&& 31)) &&& 1) = 0 ↔ t9 = false := by decide +kernel
section
variable {pc x1 : Int32} {top bot : Int64} {a1 a2 a3 : Nat → Int32} {a4 a5 : Nat → Int64} {a6 a7 : Nat → Int32} {t9 t14 t19 : Bool}
/-! closeReach -/
theorem ky_cr10 {post : St2 → Prop} {J : Int32 → (Nat → Int32) → (Nat → Int32) → (Nat → Int32) → (Nat → Int64) → (Nat → Int64) → (Nat → Int32) → (Nat → Int32) → Prop} {m : Nat} (hm : m < 6) (h : ∀ j, j < 6 → a7 j = ky_R t9 t14 t19 m j)
    (H : ∀ a7' : Nat → Int32, (∀ j, j < 6 → a7' j = ky_R t9 t14 t19 (m + 1) j) → J (nI (m + 1)) a1 a2 a3 a4 a5 a6 a7') :
    ∃ n, wX_closeReach_10 post J (nI m) pc top bot n 0 a1 a2 a3 a4 a5 a6 a7 :=
  pk_loop (σ := Nat → Int32) (fun n i s => wX_closeReach_10 post J (nI m) pc top bot n (nI i) a1 a2 a3 a4 a5 a6 s) (fun i s => ∀ j, j < 6 → s j = if j < i then ky_R t9 t14 t19 (m + 1) j else ky_R t9 t14 t19 m j) 6 0 a7 (by omega)
    (fun j hj => by rw [if_neg (by omega)]; exact h j hj)
    (fun n s hs => pk_le 6 6 (fun _ => nm_r (nI_1 m) (H s (fun j hj => by rw [hs j hj, if_pos hj]))) (fun z => absurd z (by omega)))
    (fun n i s hi hs hw => by
      have ci : (nI i).toNatClampNeg = i := nI_clamp (by omega)
      have cm : (nI m).toNatClampNeg = m := nI_clamp (by omega)
      have ei : s i = ky_R t9 t14 t19 m i := by rw [hs i hi, if_neg (by omega)]
      have em : s m = if m < i then ky_R t9 t14 t19 (m + 1) m else ky_R t9 t14 t19 m m := hs m hm
      refine pk_le 6 i (fun z => absurd z (by omega)) (fun _ => ⟨pk_in i 6 hi, ?_⟩)
      rw [ci, cm]
      refine br_c (fun z => nm_r (nI_1 i) (hw s (fun j hj => ?_))) (fun z => ⟨pk_in i 6 hi, pk_in m 6 hm, pk_in i 6 hi, nm_e (nm_r (nI_1 i) (hw (upd s i (s i ||| s m)) (fun j hj => ?_)))⟩)
      · by_cases e : j = i
        · subst e
          rw [ei] at z
          rw [ei, if_pos (by omega), ky_Rt t9 t14 t19 m hm j hi z]
        · rw [hs j hj]
          by_cases l : j < i
          · rw [if_pos l, if_pos (by omega)]
          · rw [if_neg l, if_neg (by omega)]
      · by_cases e : j = i
        · subst e
          rw [ei] at z
          rw [pk_us, ei, em, if_pos (show j < j + 1 by omega), ky_Rf t9 t14 t19 m hm j hi z]
        · rw [pk_un e, hs j hj]
          by_cases l : j < i
          · rw [if_pos l, if_pos (by omega)]
          · rw [if_neg l, if_neg (by omega)])
theorem ky_close {post : St2 → Prop} (h : ∀ j, j < 6 → a7 j = ky_R t9 t14 t19 0 j)
    (H : ∀ a7' : Nat → Int32, (∀ j, j < 6 → a7' j = ky_R t9 t14 t19 6 j) → post (pc, top, bot, a1, a2, a3, a4, a5, a6, a7')) :
    wpX_closeReach post (pc, top, bot, a1, a2, a3, a4, a5, a6, a7) :=
  pk_loop (σ := Nat → Int32) (fun n i s => wX_closeReach_2 post pc top bot n (nI i) a1 a2 a3 a4 a5 a6 s) (fun i s => ∀ j, j < 6 → s j = ky_R t9 t14 t19 i j) 6 0 a7 (by omega) h
    (fun n s hs => pk_le 6 6 (fun _ => H s hs) (fun z => absurd z (by omega)))
    (fun n i s hi hs hw => pk_le 6 i (fun z => absurd z (by omega)) (fun _ => ky_cr10 hi hs (fun a7' h' => hw a7' h')))
/-! onTightCircle -/
theorem ky_onT {post : Int32 → Prop} {M : Nat → Int32} (h : ∀ j, j < 6 → a7 j = M j) (H : post (ky_oc M 4)) : wpX_onTightCircle post (4, top, bot, a1, a2, a3, a4, a5, a6, a7) :=
  pk_loop (σ := Int32) (fun n i s => wX_onTightCircle_4 post 4 top bot a1 a2 a3 a4 a5 a6 a7 n s (nI i)) (fun i s => s = ky_oc M i) 4 0 0 (by omega) rfl
    (fun n s hs => pk_le 4 4 (fun _ => by rw [hs]; exact H) (fun z => absurd z (by omega)))
    (fun n i s hi hs hw => by
      refine pk_le 4 i (fun z => absurd z (by omega)) (fun _ => ⟨pk_in i 6 (by omega), ?_⟩)
      rw [nI_clamp (by omega), h i (by omega)]
      refine br_c (fun z => nm_r (nI_1 i) (hw s ?_)) (fun z => nm_e (nm_r (nI_1 i) (hw _ ?_)))
      · show s = ky_oc M (i + 1)
        rw [ky_oc, if_pos z, hs]
      · show s ||| ((1 : Int32) <<< (nI i &&& 31)) = ky_oc M (i + 1)
        rw [ky_oc, if_neg z, hs])
/-! the rows -/
theorem ky_row_s {tt : Nat → Bool} {u v : Nat} (h : tt (6 * u + v) = true) : ky_row tt u (v + 1) = ky_row tt u v ||| ((1 : Int32) <<< (nI v &&& 31)) := by
  rw [ky_row, if_pos h]
theorem ky_row_n {tt : Nat → Bool} {u v : Nat} (h : tt (6 * u + v) = false) : ky_row tt u (v + 1) = ky_row tt u v := by
  rw [ky_row, if_neg (by rw [h]; decide)]
theorem ky_oc17 {post : Int32 → St2 → Prop} {J : Int32 → (Nat → Int32) → (Nat → Int32) → (Nat → Int32) → (Nat → Int64) → (Nat → Int64) → (Nat → Int32) → (Nat → Int32) → Prop} {tt : Nat → Bool} {u : Nat} (hu : u < 6) (ht : ∀ k, k < 36 → (tt k = true ∧ ¬ a1 k = 0) ∨ (tt k = false ∧ a1 k = 0)) (h0 : a7 u = 0)
    (H : ∀ a7' : Nat → Int32, a7' u = ky_row tt u 6 → (∀ j, j ≠ u → a7' j = a7 j) → J (nI (u + 1)) a1 a2 a3 a4 a5 a6 a7') :
    ∃ n, wX_onCircle_17 post J (nI u) pc top bot n 0 a1 a2 a3 a4 a5 a6 a7 :=
  pk_loop (σ := Nat → Int32) (fun n i s => wX_onCircle_17 post J (nI u) pc top bot n (nI i) a1 a2 a3 a4 a5 a6 s) (fun i s => s u = ky_row tt u i ∧ ∀ j, j ≠ u → s j = a7 j) 6 0 a7 (by omega) ⟨h0, fun j _ => rfl⟩
    (fun n s hs => pk_le 6 6 (fun _ => nm_r (nI_1 u) (H s hs.1 hs.2)) (fun z => absurd z (by omega)))
    (fun n i s hi hs hw => by
      refine pk_le 6 i (fun z => absurd z (by omega)) (fun _ => ?_)
      rw [ky_ix]
      refine ⟨pk_in (6 * u + i) 36 (by omega), ?_⟩
      rw [nI_clamp (show 6 * u + i < 2 ^ 31 by omega), nI_clamp (show u < 2 ^ 31 by omega)]
      rcases ht (6 * u + i) (by omega) with ⟨z, za⟩ | ⟨z, za⟩
      · refine br_f za ⟨pk_in u 6 hu, pk_in u 6 hu, nm_e (nm_r (nI_1 i) (hw _ ⟨?_, fun j hj => ?_⟩))⟩
        · rw [pk_us, hs.1, ky_row_s z]
        · rw [pk_un hj]
          exact hs.2 j hj
      · exact br_t za (nm_r (nI_1 i) (hw s ⟨by rw [hs.1, ky_row_n z], hs.2⟩)))
theorem ky_onCircle {post : Int32 → St2 → Prop} (G : ky_G a1)
    (H : ∀ a7' : Nat → Int32, post 14 (4, top, bot, a1, a2, a3, a4, a5, a6, a7')) : wpX_onCircle post (4, top, bot, a1, a2, a3, a4, a5, a6, a7) :=
  pk_loop (σ := Nat → Int32) (fun n i s => wX_onCircle_2 post 4 top bot n (nI i) a1 a2 a3 a4 a5 a6 s) (fun i s => ∀ j, j < i → s j = ky_row (ky_tt true true true) j 6) 6 0 a7 (by omega)
    (fun j hj => absurd hj (by omega))
    (fun n s hs => pk_le 6 6 (fun _ => ky_close (t9 := true) (t14 := true) (t19 := true) (fun j hj => (hs j hj).trans (ky_R0 true true true j hj)) (fun a7' h' => ky_onT h' (H a7'))) (fun z => absurd z (by omega)))
    (fun n i s hi hs hw => by
      refine pk_le 6 i (fun z => absurd z (by omega)) (fun _ => ⟨pk_in i 6 hi, nm_r (e' := upd s i 0) (by rw [nI_clamp (by omega)]) (ky_oc17 (tt := ky_tt true true true) hi ?_ pk_us (fun a7' h1 h2 => hw a7' (fun j hj => ?_)))⟩)
      · intro k hk
        by_cases e9 : k = 9
        · subst e9
          exact Or.inl ⟨rfl, by rw [G.1]; decide⟩
        · by_cases e14 : k = 14
          · subst e14
            exact Or.inl ⟨rfl, by rw [G.2.1]; decide⟩
          · by_cases e19 : k = 19
            · subst e19
              exact Or.inl ⟨rfl, by rw [G.2.2.1]; decide⟩
            · refine Or.inr ⟨?_, G.2.2.2 k e9 e14 e19⟩
              simp [ky_tt, e9, e14, e19]
      · by_cases e : j = i
        · subst e
          exact h1
        · rw [h2 j e, pk_un e]
          exact hs j (by omega))
/-! tight arcs -/
/-- isTight answers by tt -/
def ky_TS (x1 : Int32) (top bot : Int64) (a1 a2 a3 : Nat → Int32) (a4 a5 : Nat → Int64) (a6 : Nat → Int32) (tt : Nat → Bool) : Prop := ∀ u v : Nat, u < 6 → v < 6 → ∀ (ps : Int32 → Prop) (a7 : Nat → Int32), ps (if tt (6 * u + v) then 1 else 0) → wpX_isTight ps (4, top, bot, a1, a2, a3, a4, a5, a6, a7) (nI u) (nI v) x1
theorem ky_isT0 {ps : Int32 → Prop} {u v : Nat} (hu : u < 6) (hv : v < 6) (h1 : a1 (6 * u + v) = 0) (h : ps 0) : wpX_isTight ps (4, top, bot, a1, a2, a3, a4, a5, a6, a7) (nI u) (nI v) x1 :=
  nm_r (ky_ix u v) ⟨pk_in (6 * u + v) 36 (by omega), br_t (by rw [nI_clamp (by omega)]; exact h1) h⟩
theorem ky_isT1 {ps : Int32 → Prop} {u v : Nat} {W Du Dv : Int} (hu : u < 6) (hv : v < 6) (h1 : a1 (6 * u + v) = 1) (hW : ky_RW x1 top bot a1 a2 a3 (6 * u + v) W) (eu : a5 u = ky_l Du) (ev : a5 v = ky_l Dv) (b1 : -100000 ≤ Du + W ∧ Du + W ≤ 100000) (b2 : -100000 ≤ Dv ∧ Dv ≤ 100000)
    (ht : Du + W = Dv → ps 1) (hf : ¬ Du + W = Dv → ps 0) : wpX_isTight ps (4, top, bot, a1, a2, a3, a4, a5, a6, a7) (nI u) (nI v) x1 := by
  refine nm_r (ky_ix u v) ⟨pk_in (6 * u + v) 36 (by omega), br_f (by rw [nI_clamp (by omega), h1]; decide) ⟨pk_in u 6 hu, hW _ _ _ _ _ _ (nm_r (e' := ky_l (Du + W)) ?_ ⟨pk_in v 6 hv, ek_if (ky_leq (x := Du + W) (y := Dv) rfl ?_) ht hf⟩)⟩⟩
  · rw [nI_clamp (by omega), eu, ky_ladd]
  · rw [nI_clamp (by omega)]
    exact ev
theorem ky_TSI {A B C D1 D3 : Int} (G : ky_G a1) (hA : ky_RW x1 top bot a1 a2 a3 9 A) (hC : ky_RW x1 top bot a1 a2 a3 14 C) (hB : ky_RW x1 top bot a1 a2 a3 19 B)
    (bA : -1000 ≤ A ∧ A ≤ 1000) (bB : -1000 ≤ B ∧ B ≤ 1000) (bC : -1000 ≤ C ∧ C ≤ 1000) (e1 : a5 1 = ky_l D1) (e2 : a5 2 = ky_l 0) (e3 : a5 3 = ky_l D3) (b1 : -10000 ≤ D1 ∧ D1 ≤ 10000) (b3 : -10000 ≤ D3 ∧ D3 ≤ 10000) :
    ky_TS x1 top bot a1 a2 a3 a4 a5 a6 (ky_tt (decide (D1 + A = D3)) (decide (0 + C = 0)) (decide (D3 + B = D1))) := by
  intro u v hu hv ps a7 hp
  by_cases e9 : 6 * u + v = 9
  · obtain ⟨rfl, rfl⟩ : u = 1 ∧ v = 3 := by omega
    refine ky_isT1 (W := A) hu hv G.1 hA e1 e3 (by omega) (by omega) (fun z => ?_) (fun z => ?_)
    · simpa [ky_tt, z] using hp
    · simpa [ky_tt, z] using hp
  · by_cases e14 : 6 * u + v = 14
    · obtain ⟨rfl, rfl⟩ : u = 2 ∧ v = 2 := by omega
      refine ky_isT1 (W := C) hu hv G.2.1 hC e2 e2 (by omega) (by omega) (fun z => ?_) (fun z => ?_)
      · rw [show ky_tt (decide (D1 + A = D3)) (decide (0 + C = 0)) (decide (D3 + B = D1)) (6 * 2 + 2) = decide (0 + C = 0) by simp [ky_tt], if_pos (decide_eq_true z)] at hp
        exact hp
      · rw [show ky_tt (decide (D1 + A = D3)) (decide (0 + C = 0)) (decide (D3 + B = D1)) (6 * 2 + 2) = decide (0 + C = 0) by simp [ky_tt], if_neg (by rw [decide_eq_true_eq]; exact z)] at hp
        exact hp
    · by_cases e19 : 6 * u + v = 19
      · obtain ⟨rfl, rfl⟩ : u = 3 ∧ v = 1 := by omega
        refine ky_isT1 (W := B) hu hv G.2.2.1 hB e3 e1 (by omega) (by omega) (fun z => ?_) (fun z => ?_)
        · simpa [ky_tt, z] using hp
        · simpa [ky_tt, z] using hp
      · refine ky_isT0 hu hv (G.2.2.2 _ e9 e14 e19) ?_
        simpa [ky_tt, e9, e14, e19] using hp
theorem ky_ft23 {post : St2 → Prop} {J : Int32 → (Nat → Int32) → (Nat → Int32) → (Nat → Int32) → (Nat → Int64) → (Nat → Int64) → (Nat → Int32) → (Nat → Int32) → Prop} {tt : Nat → Bool} {u : Nat} (hu : u < 6) (hT : ky_TS x1 top bot a1 a2 a3 a4 a5 a6 tt) (h0 : a7 u = 0)
    (H : ∀ a7' : Nat → Int32, a7' u = ky_row tt u 6 → (∀ j, j ≠ u → a7' j = a7 j) → J (nI (u + 1)) a1 a2 a3 a4 a5 a6 a7') :
    ∃ n, wX_findTight_23 post J x1 (nI u) 4 top bot n 0 a1 a2 a3 a4 a5 a6 a7 :=
  pk_loop (σ := Nat → Int32) (fun n i s => wX_findTight_23 post J x1 (nI u) 4 top bot n (nI i) a1 a2 a3 a4 a5 a6 s) (fun i s => s u = ky_row tt u i ∧ ∀ j, j ≠ u → s j = a7 j) 6 0 a7 (by omega) ⟨h0, fun j _ => rfl⟩
    (fun n s hs => pk_le 6 6 (fun _ => nm_r (nI_1 u) (H s hs.1 hs.2)) (fun z => absurd z (by omega)))
    (fun n i s hi hs hw => by
      refine pk_le 6 i (fun z => absurd z (by omega)) (fun _ => hT u i hu hi _ _ ?_)
      rw [nI_clamp (show u < 2 ^ 31 by omega)]
      by_cases z : tt (6 * u + i) = true
      · rw [if_pos z]
        refine br_f (by decide) ⟨pk_in u 6 hu, pk_in u 6 hu, nm_e (nm_r (nI_1 i) (hw _ ⟨?_, fun j hj => ?_⟩))⟩
        · rw [pk_us, hs.1, ky_row_s z]
        · rw [pk_un hj]
          exact hs.2 j hj
      · rw [if_neg z]
        exact br_t rfl (nm_r (nI_1 i) (hw s ⟨by rw [hs.1, ky_row_n (by simpa using z)], hs.2⟩)))
theorem ky_ft8 {post : St2 → Prop} (hT : ky_TS x1 top bot a1 a2 a3 a4 a5 a6 (ky_tt t9 t14 t19))
    (H : ∀ a7' : Nat → Int32, (∀ j, j < 6 → a7' j = ky_R t9 t14 t19 6 j) → post (4, top, bot, a1, a2, a3, a4, a5, a6, a7')) :
    ∃ n, wX_findTight_8 post x1 4 top bot n 0 a1 a2 a3 a4 a5 a6 a7 :=
  pk_loop (σ := Nat → Int32) (fun n i s => wX_findTight_8 post x1 4 top bot n (nI i) a1 a2 a3 a4 a5 a6 s) (fun i s => ∀ j, j < i → s j = ky_row (ky_tt t9 t14 t19) j 6) 6 0 a7 (by omega)
    (fun j hj => absurd hj (by omega))
    (fun n s hs => pk_le 6 6 (fun _ => ky_close (fun j hj => (hs j hj).trans (ky_R0 t9 t14 t19 j hj)) (fun a7' h' => H a7' h')) (fun z => absurd z (by omega)))
    (fun n i s hi hs hw => by
      refine pk_le 6 i (fun z => absurd z (by omega)) (fun _ => ⟨pk_in i 6 hi, nm_r (e' := upd s i 0) (by rw [nI_clamp (by omega)]) (ky_ft23 hi hT pk_us (fun a7' h1 h2 => hw a7' (fun j hj => ?_)))⟩)
      by_cases e : j = i
      · subst e
        exact h1
      · rw [h2 j e, pk_un e]
        exact hs j (by omega))
theorem ky_findTight {post : St2 → Prop} {A B C : Int} (G : ky_G a1) (hA : ky_RW x1 top bot a1 a2 a3 9 A) (hC : ky_RW x1 top bot a1 a2 a3 14 C) (hB : ky_RW x1 top bot a1 a2 a3 19 B)
    (bA : -1000 ≤ A ∧ A ≤ 1000) (bB : -1000 ≤ B ∧ B ≤ 1000) (bC : -1000 ≤ C ∧ C ≤ 1000) (hAB : 0 ≤ A + B) (hC0 : 0 ≤ C)
    (H : ∀ (a5' : Nat → Int64) (a6' a7' : Nat → Int32) (t9 t14 t19 : Bool), ((t9 = true ∧ t19 = true) ↔ A + B = 0) → (t14 = true ↔ C = 0) → (∀ j, j < 6 → a7' j = ky_R t9 t14 t19 6 j) → ky_TS x1 top bot a1 a2 a3 a4 a5' a6' (ky_tt t9 t14 t19) → post (4, top, bot, a1, a2, a3, a4, a5', a6', a7')) :
    wpX_findTight post (4, top, bot, a1, a2, a3, a4, a5, a6, a7) x1 := by
  refine ky_relax G hA hC hB bA bB bC (fun a5' a6' x hx => ?_)
  rcases hx with ⟨z, _⟩ | ⟨_, z, _⟩ | ⟨_, _, _, D1, D3, e1, e2, e3, m3, m1⟩
  · exact absurd z (by omega)
  · exact absurd z (by omega)
  · have TS := ky_TSI (a4 := a4) (a6 := a6') G hA hC hB bA bB bC e1 e2 e3 (by omega) (by omega)
    refine ky_ft8 TS (fun a7' h' => H a5' a6' a7' _ _ _ ?_ ?_ h' TS)
    · rw [decide_eq_true_eq, decide_eq_true_eq]
      constructor
      · intro z
        omega
      · intro z
        constructor <;> omega
    · rw [decide_eq_true_eq]
      constructor <;> intro z <;> omega
end
end
section
/-! the class's answers, each at its own name -/
section
variable {top bot : Int64} {a1 a2 a3 : Nat → Int32} {a4 a5 : Nat → Int64} {a6 a7 : Nat → Int32} {p q r s t o : Int}
theorem ky_meanTop {post : Int32 → St2 → Prop} (S : ky_S p q r s t o a1 a2 a3)
    (H : ∀ (MT MB : Int) (a4' : Nat → Int64), ky_MM p q r MT MB → post (ky_i MT) (4, ky_l MT, ky_l MB, a1, a2, a3, a4', a5, a6, a7)) :
    wpX_meanTop post (4, top, bot, a1, a2, a3, a4, a5, a6, a7) := by
  refine ky_findMean S (fun MT MB a4' mm b1 b2 => br_f (by decide) ?_)
  show post (ky_l MT).toInt32 (4, ky_l MT, ky_l MB, a1, a2, a3, a4', a5, a6, a7)
  rw [ky_li]
  exact H MT MB a4' mm
theorem ky_meanBottom {post : Int32 → St2 → Prop} (S : ky_S p q r s t o a1 a2 a3)
    (H : ∀ (MT MB : Int) (a4' : Nat → Int64), ky_MM p q r MT MB → post (ky_i MB) (4, ky_l MT, ky_l MB, a1, a2, a3, a4', a5, a6, a7)) :
    wpX_meanBottom post (4, top, bot, a1, a2, a3, a4, a5, a6, a7) := by
  refine ky_findMean S (fun MT MB a4' mm b1 b2 => br_f (by decide) ?_)
  show post (ky_l MB).toInt32 (4, ky_l MT, ky_l MB, a1, a2, a3, a4', a5, a6, a7)
  rw [ky_li]
  exact H MT MB a4' mm
theorem ky_ratioTop {post : Int32 → St2 → Prop} (S : ky_S p q r s t o a1 a2 a3)
    (H : ∀ (RT RB : Int) (a5' : Nat → Int64) (a6' : Nat → Int32), ky_RR p q r s t o RT RB → post (ky_i RT) (4, ky_l RT, ky_l RB, a1, a2, a3, a4, a5', a6', a7)) :
    wpX_ratioTop post (4, top, bot, a1, a2, a3, a4, a5, a6, a7) := by
  refine ky_findRatio (top := top) (bot := bot) S (fun RT RB a5' a6' rr b1 b2 => br_f (by decide) ?_)
  show post (ky_l RT).toInt32 (4, ky_l RT, ky_l RB, a1, a2, a3, a4, a5', a6', a7)
  rw [ky_li]
  exact H RT RB a5' a6' rr
theorem ky_ratioBottom {post : Int32 → St2 → Prop} (S : ky_S p q r s t o a1 a2 a3)
    (H : ∀ (RT RB : Int) (a5' : Nat → Int64) (a6' : Nat → Int32), ky_RR p q r s t o RT RB → post (ky_i RB) (4, ky_l RT, ky_l RB, a1, a2, a3, a4, a5', a6', a7)) :
    wpX_ratioBottom post (4, top, bot, a1, a2, a3, a4, a5, a6, a7) := by
  refine ky_findRatio (top := top) (bot := bot) S (fun RT RB a5' a6' rr b1 b2 => br_f (by decide) ?_)
  show post (ky_l RB).toInt32 (4, ky_l RT, ky_l RB, a1, a2, a3, a4, a5', a6', a7)
  rw [ky_li]
  exact H RT RB a5' a6' rr
theorem ky_meanPoints {post : Int32 → St2 → Prop} (S : ky_S p q r s t o a1 a2 a3)
    (H : ∀ (top' bot' : Int64) (a4' a5' : Nat → Int64) (a6' a7' : Nat → Int32), post ((if p + q ≤ 2 * r then 10 else 0) + (if 2 * r ≤ p + q then 4 else 0)) (4, top', bot', a1, a2, a3, a4', a5', a6', a7')) :
    wpX_meanPoints post (4, top, bot, a1, a2, a3, a4, a5, a6, a7) := by
  have S' := S
  obtain ⟨G, ⟨h9, h19, h14⟩, ⟨g9, g19, g14⟩, bp, bq, br, bs, bt, bo⟩ := S'
  refine ky_findMean S (fun MT MB a4' mm b1 b2 => br_f (by decide) ?_)
  have k : 0 ≤ p * MB - MT + (q * MB - MT) ∧ 0 ≤ r * MB - MT ∧ (p * MB - MT + (q * MB - MT) = 0 ↔ p + q ≤ 2 * r) ∧ (r * MB - MT = 0 ↔ 2 * r ≤ p + q) := by
    rcases mm with ⟨z, ⟨m, e1, rfl, rfl⟩ | ⟨m, e1, rfl, rfl⟩⟩ | ⟨z, rfl, rfl⟩
    · refine ⟨by omega, by omega, ?_, ?_⟩ <;> constructor <;> intro z2 <;> omega
    · refine ⟨by omega, by omega, ?_, ?_⟩ <;> constructor <;> intro z2 <;> omega
    · refine ⟨by omega, by omega, ?_, ?_⟩ <;> constructor <;> intro z2 <;> omega
  obtain ⟨k1, k2, k3, k4⟩ := k
  refine ky_findTight G (ky_RW0 (by omega) h9 bp rfl rfl) (ky_RW0 (by omega) h14 br rfl rfl) (ky_RW0 (by omega) h19 bq rfl rfl) (ky_bW0 bp b1 b2) (ky_bW0 bq b1 b2) (ky_bW0 br b1 b2) k1 k2 (fun a5' a6' a7' t9 t14 t19 e1 e2 hR TS => ?_)
  refine ky_onT hR ?_
  rw [ky_ocE]
  have f1 : (if (t9 && t19) = true then (10 : Int32) else 0) = if p + q ≤ 2 * r then 10 else 0 := by
    by_cases z : p + q ≤ 2 * r
    · have zz := e1.mpr (k3.mpr z)
      rw [if_pos z, if_pos (by rw [zz.1, zz.2]; rfl)]
    · rw [if_neg z, if_neg (fun y => z (k3.mp (e1.mp (by simpa using y))))]
  have f2 : (if t14 = true then (4 : Int32) else 0) = if 2 * r ≤ p + q then 4 else 0 := by
    by_cases z : 2 * r ≤ p + q
    · rw [if_pos z, if_pos (e2.mpr (k4.mpr z))]
    · rw [if_neg z, if_neg (fun y => z (k4.mp (e2.mp y)))]
  rw [f1, f2]
  exact H _ _ _ _ _ _
theorem ky_isPt {ps : Int32 → Prop} {u : Nat} (hu : u < 4) (h : ps 1) : wpX_isPoint ps (4, top, bot, a1, a2, a3, a4, a5, a6, a7) (nI u) :=
  br_f (nI_pos (by omega)) (br_f (nI_ge (b := 4) hu (by decide)) h)
theorem ky_closes {ps : Int32 → Prop} {t9 t14 t19 : Bool} (h : a7 1 = ky_R t9 t14 t19 6 1) (ht : t9 = true → ps 1) (hf : t9 = false → ps 0) : wpX_closes ps (4, top, bot, a1, a2, a3, a4, a5, a6, a7) (nI 3) (nI 1) := by
  have cl := ky_cl3 t9 t14 t19
  unfold wpX_closes
  dsimp only
  refine br_f (by decide) ⟨pk_in 1 6 (by omega), ?_⟩
  rw [nI_clamp (by omega), h]
  exact ek_if cl hf (fun z => ht (by simpa using z))
theorem ky_ratioArc {post : Int32 → St2 → Prop} (S : ky_S p q r s t o a1 a2 a3)
    (H : ∀ (top' bot' : Int64) (a5' : Nat → Int64) (a6' a7' : Nat → Int32), post (if (p + q) * o ≤ r * (s + t) then 1 else 0) (4, top', bot', a1, a2, a3, a4, a5', a6', a7')) :
    wpX_ratioArc post (4, top, bot, a1, a2, a3, a4, a5, a6, a7) (nI 3) (nI 1) := by
  have S' := S
  obtain ⟨G, ⟨h9, h19, h14⟩, ⟨g9, g19, g14⟩, bp, bq, br, bs, bt, bo⟩ := S'
  have e19 : 6 * nI 3 + nI 1 = nI 19 := ky_ix 3 1
  unfold wpX_ratioArc
  dsimp only
  refine ky_isPt (u := 3) (by omega) (br_f (by decide) ?_)
  refine ky_isPt (u := 1) (by omega) (br_f (by decide) ?_)
  rw [e19]
  refine ⟨pk_in 19 36 (by omega), br_f (by rw [nI_clamp (by omega), G.2.2.1]; decide) ?_⟩
  refine ky_findRatio (top := top) (bot := bot) S (fun RT RB a5' a6' rr b1 b2 => br_f (by decide) ?_)
  have k : 0 ≤ p * RB - RT * s + (q * RB - RT * t) ∧ 0 ≤ r * RB - RT * o ∧ (p * RB - RT * s + (q * RB - RT * t) = 0 ↔ (p + q) * o ≤ r * (s + t)) := by
    rw [ky_two]
    rcases rr with ⟨hs, g, hg, g0, eT, eB⟩ | ⟨hs, g, hg, g0, eT, eB⟩
    · have z1 : (p + q) * RB - RT * (s + t) = 0 := (ky_sg0 (p + q) (s + t) g0 eT eB).mpr (by rw [eT, eB, Int.mul_comm])
      have z2 := ky_sgN r o g0 eT eB
      refine ⟨by omega, ?_, ⟨fun _ => hs, fun _ => z1⟩⟩
      rcases Int.lt_or_le (r * RB - RT * o) 0 with y | y
      · exact absurd (z2.mp y) (by omega)
      · exact y
    · have z1 : r * RB - RT * o = 0 := (ky_sg0 r o g0 eT eB).mpr (by rw [eT, eB, Int.mul_comm])
      have z2 := ky_sgN (p + q) (s + t) g0 eT eB
      have z3 := ky_sg0 (p + q) (s + t) g0 eT eB
      refine ⟨?_, by omega, ⟨fun y => ?_, fun y => absurd hs (by omega)⟩⟩
      · rcases Int.lt_or_le ((p + q) * RB - RT * (s + t)) 0 with y | y
        · exact absurd (z2.mp y) (by omega)
        · exact y
      · have := z3.mp y
        omega
  obtain ⟨k1, k2, k3⟩ := k
  refine ky_findTight G (ky_RW1 (by omega) h9 g9 bp bs rfl rfl) (ky_RW1 (by omega) h14 g14 br bo rfl rfl) (ky_RW1 (by omega) h19 g19 bq bt rfl rfl) (ky_bW bp bs b1 b2) (ky_bW bq bt b1 b2) (ky_bW br bo b1 b2) k1 k2 (fun a5' a6' a7' t9 t14 t19 e1 e2 hR TS => ?_)
  refine TS 3 1 (by omega) (by omega) _ _ ?_
  have ht : ky_tt t9 t14 t19 (6 * 3 + 1) = t19 := by
    cases t19 <;> simp [ky_tt]
  rw [ht]
  by_cases z19 : t19 = true
  · rw [if_pos z19]
    refine br_f (by decide) ?_
    refine ky_closes (hR 1 (by omega)) (fun z9 => br_f (by decide) ?_) (fun z9 => br_t rfl ?_)
    · have h := H (ky_l RT) (ky_l RB) a5' a6' a7'
      rw [if_pos (k3.mp (e1.mp ⟨z9, z19⟩))] at h
      exact h
    · have h := H (ky_l RT) (ky_l RB) a5' a6' a7'
      rw [if_neg (fun y => by rw [(e1.mpr (k3.mpr y)).1] at z9; exact absurd z9 (by decide))] at h
      exact h
  · rw [if_neg z19]
    refine br_t rfl ?_
    have h := H (ky_l RT) (ky_l RB) a5' a6' a7'
    rw [if_neg (fun y => z19 (e1.mpr (k3.mpr y)).2)] at h
    exact h
theorem ky_arc {post : Int32 → St2 → Prop} {u v : Nat} {w z : Int} (hu : u < 4) (hv : v < 4) (bw : -20 ≤ w ∧ w ≤ 20) (bz : 1 ≤ z ∧ z ≤ 5)
    (H : post 1 (4, top, bot, upd a1 (6 * u + v) 1, upd a2 (6 * u + v) (ky_i w), upd a3 (6 * u + v) (ky_i z), a4, a5, a6, a7)) :
    wpX_arc post (4, top, bot, a1, a2, a3, a4, a5, a6, a7) (nI u) (nI v) (ky_i w) (ky_i z) := by
  unfold wpX_arc
  dsimp only
  refine ky_isPt hu (br_f (by decide) ?_)
  refine ky_isPt hv (br_f (by decide) ?_)
  rw [ky_ix, nI_clamp (show 6 * u + v < 2 ^ 31 by omega), ky_i8 (by omega), ky_i8 (by omega)]
  refine ek_if (ky_ilt (x := w) (y := -20) rfl (by decide)) (fun y => absurd y (by omega)) (fun _ => ?_)
  refine ek_if (ky_ilt (x := 20) (y := w) (by decide) rfl) (fun y => absurd y (by omega)) (fun _ => ?_)
  refine ek_if (ky_ilt (x := z) (y := 1) rfl (by decide)) (fun y => absurd y (by omega)) (fun _ => ?_)
  refine ek_if (ky_ile (x := z) (y := 5) rfl (by decide)) (fun _ => ?_) (fun y => absurd y (by omega))
  exact ⟨pk_in (6 * u + v) 36 (by omega), nm_e ⟨pk_in (6 * u + v) 36 (by omega), nm_e ⟨pk_in (6 * u + v) 36 (by omega), nm_e H⟩⟩⟩
end
end
section
/-! the law -/
theorem ky_par (x : Int32) : ∃ p : Int, (-20 ≤ p ∧ p ≤ 20) ∧ ((x &&& 255) - (x &&& 255) / 41 * 41) - 20 = ky_i p := by
  obtain ⟨j, hj, e⟩ := pk_andE x (m := 255) 8 (by decide)
  have e2 : nI j - nI j / 41 * 41 = nI (j % 41) := pk_rem (d := 41) (by omega) (by omega) (by omega)
  refine ⟨((j % 41 : Nat) : Int) - 20, by omega, ?_⟩
  rw [e, e2, ky_nI, show (20 : Int32) = ky_i 20 by decide, ky_isub]
theorem ky_par5 (x : Int32) : ∃ p : Int, (1 ≤ p ∧ p ≤ 5) ∧ 1 + ((x &&& 255) - (x &&& 255) / 5 * 5) = ky_i p := by
  obtain ⟨j, hj, e⟩ := pk_andE x (m := 255) 8 (by decide)
  have e2 : nI j - nI j / 5 * 5 = nI (j % 5) := pk_rem (d := 5) (by omega) (by omega) (by omega)
  refine ⟨1 + ((j % 5 : Nat) : Int), by omega, ?_⟩
  rw [e, e2, ky_nI, show (1 : Int32) = ky_i 1 by decide, ky_iadd]
theorem ky_com3 {post : Int32 → Prop} {a b : Int} (ba : -1000 ≤ a ∧ a ≤ 1000) (bb : 1 ≤ b ∧ b ≤ 10) (H : post (ky_i (Int.gcd a b : Nat))) : ∀ d : Nat, 1 ≤ d → d ≤ 10 → Int.gcd a b ≤ d → wL_common_3 post (ky_i a) (ky_i b) d (nI d) := by
  have g0 : 0 < Int.gcd a b := Int.gcd_pos_of_ne_zero_right a (by omega)
  intro d
  induction d with
  | zero => intro h; exact absurd h (by omega)
  | succ d ih =>
    intro h1 h10 hg
    have n0 : ¬ nI (d + 1) = 0 := nI_ne0 (by omega) (by omega)
    refine pk_le (d + 1) 1 (fun z => ?_) (fun z => ⟨n0, ?_⟩)
    · have e : Int.gcd a b = 1 := by omega
      rw [e] at H
      exact H
    · have go : ¬ (((d + 1 : Nat) : Int) ∣ a ∧ ((d + 1 : Nat) : Int) ∣ b) → wL_common_3 post (ky_i a) (ky_i b) d (nI d) := by
        intro hn
        refine ih (by omega) (by omega) ?_
        rcases Nat.lt_or_ge (Int.gcd a b) (d + 1) with y | y
        · omega
        · have e : Int.gcd a b = d + 1 := by omega
          rw [← e] at hn
          exact absurd ⟨Int.gcd_dvd_left a b, Int.gcd_dvd_right a b⟩ hn
      refine ek_if (ky_rem0 (d := ((d + 1 : Nat) : Int)) rfl (ky_nI (d + 1))) (fun da => ⟨n0, ?_⟩) (fun da => nm_r (pk_m1 d) (go (fun y => da y.1)))
      refine ek_if (ky_rem0 (d := ((d + 1 : Nat) : Int)) rfl (ky_nI (d + 1))) (fun db => ?_) (fun db => nm_r (pk_m1 d) (go (fun y => db y.2)))
      have dv : d + 1 ∣ Int.gcd a b := Int.dvd_gcd da db
      have le := Nat.le_of_dvd g0 dv
      have e : Int.gcd a b = d + 1 := by omega
      rw [e, ← ky_nI] at H
      exact H
theorem ky_common {post : Int32 → Prop} {a b : Int} (ba : -1000 ≤ a ∧ a ≤ 1000) (bb : 1 ≤ b ∧ b ≤ 10) (H : post (ky_i (Int.gcd a b : Nat))) : wpL_common post () (ky_i a) (ky_i b) := by
  have l1 : ((Int.gcd a b : Nat) : Int) ≤ b := Int.le_of_dvd (by omega) (Int.gcd_dvd_right a b)
  exact ⟨10, ky_com3 ba bb H 10 (by omega) (by omega) (by omega)⟩
/-- top and under, as the law takes them -/
def ky_TU (p q r s t o : Int) (x12 : Int32) (Tt Un : Int) : Prop := (x12 = 1 ∧ (p + q) * o ≤ r * (s + t) ∧ Tt = p + q ∧ Un = s + t) ∨ (x12 = 0 ∧ r * (s + t) < (p + q) * o ∧ Tt = r ∧ Un = o)
theorem ky_TUq {p q r s t o Tt Un RT RB : Int} {x12 : Int32} (h : ky_TU p q r s t o x12 Tt Un) (rr : ky_RR p q r s t o RT RB) : 0 < Int.gcd Tt Un ∧ Tt = (Int.gcd Tt Un : Nat) * RT ∧ Un = (Int.gcd Tt Un : Nat) * RB := by
  rcases h with ⟨_, h1, rfl, rfl⟩ | ⟨_, h1, rfl, rfl⟩
  · rcases rr with ⟨_, g, rfl, g0, eT, eB⟩ | ⟨h2, _⟩
    · exact ⟨g0, eT, eB⟩
    · exact absurd h2 (by omega)
  · rcases rr with ⟨h2, _⟩ | ⟨_, g, rfl, g0, eT, eB⟩
    · exact absurd h2 (by omega)
    · exact ⟨g0, eT, eB⟩
theorem ky_iq {X g k : Int} (bX : -1000 ≤ X ∧ X ≤ 1000) (bg : 0 < g ∧ g ≤ 10) (e : X = g * k) : ky_i k = ky_i X / ky_i g := by
  rw [ky_idiv (by omega) (by omega), ky_tdiv bg.1 e]
section
variable {post : Int32 → St0 → Prop} {mc ms kc ks : Nat} {x10 x11 x12 z0 z1 z2 : Int32} {top bot : Int64} {a1 a2 a3 : Nat → Int32} {a4 a5 : Nat → Int64} {a6 a7 : Nat → Int32} {p q r s t o Tt Un : Int}
theorem ky_374 (S : ky_S p q r s t o a1 a2 a3) (hp : post 1 ()) (hz : z2 = z1 + z0) (hT : ky_TU p q r s t o x12 Tt Un) :
    wL_lawOf_374 post mc ms x12 z0 z1 z2 kc ks 4 top bot a1 a2 a3 a4 a5 a6 a7 := by
  refine br_t hz (ky_onCircle S.1 (fun a7' => br_t rfl ?_))
  refine ky_ratioArc S (fun top' bot' a5' a6' a7'' => br_t ?_ hp)
  rcases hT with ⟨e, h, _⟩ | ⟨e, h, _⟩
  · rw [if_pos h, e]
  · rw [if_neg (by omega), e]
theorem ky_313 (S : ky_S p q r s t o a1 a2 a3) (hp : post 1 ()) (hz : z1 = z0) (hT : ky_TU p q r s t o x12 Tt Un)
    (h10 : (x10 = 1 ∧ p + q ≤ 2 * r) ∨ (x10 = 0 ∧ 2 * r < p + q)) (h11 : (x11 = 1 ∧ 2 * r ≤ p + q) ∨ (x11 = 0 ∧ p + q < 2 * r)) :
    wL_lawOf_313 post mc ms x10 x11 x12 (ky_i Tt) (ky_i Un) (ky_i (Int.gcd Tt Un : Nat)) z0 z1 kc ks 4 top bot a1 a2 a3 a4 a5 a6 a7 := by
  have S' := S
  obtain ⟨G, _, _, bp, bq, br, bs, bt, bo⟩ := S'
  have bTU : (-1000 ≤ Tt ∧ Tt ≤ 1000) ∧ (1 ≤ Un ∧ Un ≤ 10) := by
    rcases hT with ⟨_, _, e1, e2⟩ | ⟨_, _, e1, e2⟩ <;> omega
  have g0 : 0 < Int.gcd Tt Un := Int.gcd_pos_of_ne_zero_right Tt (by omega)
  have gl : ((Int.gcd Tt Un : Nat) : Int) ≤ Un := Int.le_of_dvd (by omega) (Int.gcd_dvd_right Tt Un)
  have gn : ¬ ky_i (Int.gcd Tt Un : Nat) = 0 := fun z => absurd ((ky_ieq (x := ((Int.gcd Tt Un : Nat) : Int)) (y := 0) rfl ky_i0).mp z) (by omega)
  refine br_t hz (ky_ratioTop S (fun RT RB a5' a6' rr => ⟨gn, br_t (ky_iq bTU.1 (by omega) (ky_TUq hT rr).2.1) ?_⟩))
  refine ky_ratioBottom S (fun RT RB a5' a6' rr => ⟨gn, br_t (ky_iq (by omega) (by omega) (ky_TUq hT rr).2.2) ?_⟩)
  refine ky_meanPoints S (fun top' bot' a4' a5' a6' a7' => ?_)
  rcases h10 with ⟨rfl, k1⟩ | ⟨rfl, k1⟩
  · refine br_f (by decide) ?_
    rw [if_pos k1]
    rcases h11 with ⟨rfl, k2⟩ | ⟨rfl, k2⟩
    · exact br_f (by decide) (ky_374 S hp (by rw [if_pos k2]) hT)
    · exact br_t rfl (ky_374 S hp (by rw [if_neg (by omega)]) hT)
  · refine br_t rfl ?_
    rw [if_neg (show ¬ p + q ≤ 2 * r by omega)]
    rcases h11 with ⟨rfl, k2⟩ | ⟨rfl, k2⟩
    · exact br_f (by decide) (ky_374 S hp (by rw [if_pos k2]) hT)
    · exact br_t rfl (ky_374 S hp (by rw [if_neg (by omega)]) hT)
theorem ky_283 (S : ky_S p q r s t o a1 a2 a3) (hp : post 1 ()) (hz : z1 = z0) (hT : ky_TU p q r s t o x12 Tt Un)
    (h10 : (x10 = 1 ∧ p + q ≤ 2 * r) ∨ (x10 = 0 ∧ 2 * r < p + q)) (h11 : (x11 = 1 ∧ 2 * r ≤ p + q) ∨ (x11 = 0 ∧ p + q < 2 * r)) :
    wL_lawOf_283 post mc ms (ky_i p) (ky_i q) x10 x11 x12 (ky_i Tt) (ky_i Un) (ky_i (Int.gcd Tt Un : Nat)) z0 z1 kc ks 4 top bot a1 a2 a3 a4 a5 a6 a7 := by
  have S' := S
  obtain ⟨G, _, _, bp, bq, br, bs, bt, bo⟩ := S'
  refine br_t hz (ky_meanBottom S (fun MT MB a4' mm => ?_))
  rcases h10 with ⟨e10, k1⟩ | ⟨e10, k1⟩
  · refine br_f (by rw [e10]; decide) ⟨by decide, ?_⟩
    refine ek_if (ky_rem0 (x := p + q) (d := 2) (ky_iadd p q) (by decide)) (fun d => ?_) (fun d => ?_)
    · have e : MB = 1 := by
        rcases mm with ⟨_, ⟨m, e1, _, e3⟩ | ⟨m, e1, _, e3⟩⟩ | ⟨z, _⟩ <;> omega
      subst e
      exact ky_313 S hp (by decide) hT (Or.inl ⟨e10, k1⟩) h11
    · have e : MB = 2 := by
        rcases mm with ⟨_, ⟨m, e1, _, e3⟩ | ⟨m, e1, _, e3⟩⟩ | ⟨z, _⟩ <;> omega
      subst e
      exact ky_313 S hp (by decide) hT (Or.inl ⟨e10, k1⟩) h11
  · have e : MB = 1 := by
      rcases mm with ⟨z, _⟩ | ⟨z, _, e3⟩ <;> omega
    subst e
    exact br_t e10 (ky_313 S hp (by decide) hT (Or.inr ⟨e10, k1⟩) h11)
theorem ky_174 (bp : -20 ≤ p ∧ p ≤ 20) (bq : -20 ≤ q ∧ q ≤ 20) (br : -20 ≤ r ∧ r ≤ 20) (bs : 1 ≤ s ∧ s ≤ 5) (bt : 1 ≤ t ∧ t ≤ 5) (bo : 1 ≤ o ∧ o ≤ 5) (hp : post 1 ()) (hT : ky_TU p q r s t o x12 Tt Un)
    (h10 : (x10 = 1 ∧ p + q ≤ 2 * r) ∨ (x10 = 0 ∧ 2 * r < p + q)) (h11 : (x11 = 1 ∧ 2 * r ≤ p + q) ∨ (x11 = 0 ∧ p + q < 2 * r)) :
    wL_lawOf_174 post 90 1424 (ky_i p) (ky_i q) (ky_i r) (ky_i s) (ky_i t) (ky_i o) x10 x11 x12 (ky_i Tt) (ky_i Un) 0 0 := by
  have bTU : (-1000 ≤ Tt ∧ Tt ≤ 1000) ∧ (1 ≤ Un ∧ Un ≤ 10) := by
    rcases hT with ⟨_, _, e1, e2⟩ | ⟨_, _, e1, e2⟩ <;> omega
  refine ky_common bTU.1 bTU.2 ⟨by omega, by omega, 7, 168, by omega, by omega, ?_⟩
  refine ⟨by omega, by omega, by omega, by omega, by omega, by omega, by omega, by omega, by omega, by omega, by omega, by omega, by omega, by omega, br_t (by decide) (br_t (by decide) ?_)⟩
  refine ky_arc (u := 1) (v := 3) (by omega) (by omega) bp bs (br_f (by decide) ?_)
  refine ky_arc (u := 3) (v := 1) (by omega) (by omega) bq bt (br_f (by decide) ?_)
  refine ky_arc (u := 2) (v := 2) (by omega) (by omega) br bo (br_f (by decide) ?_)
  have S : ky_S p q r s t o (upd (upd (upd (fun _ => 0) (6 * 1 + 3) 1) (6 * 3 + 1) 1) (6 * 2 + 2) 1) (upd (upd (upd (fun _ => 0) (6 * 1 + 3) (ky_i p)) (6 * 3 + 1) (ky_i q)) (6 * 2 + 2) (ky_i r)) (upd (upd (upd (fun _ => 0) (6 * 1 + 3) (ky_i s)) (6 * 3 + 1) (ky_i t)) (6 * 2 + 2) (ky_i o)) :=
    ⟨⟨rfl, rfl, rfl, fun i h9 h14 h19 => by rw [pk_un h14, pk_un h19, pk_un h9]⟩, ⟨rfl, rfl, rfl⟩, ⟨rfl, rfl, rfl⟩, bp, bq, br, bs, bt, bo⟩
  refine ky_meanTop S (fun MT MB a4' mm => ?_)
  rcases h10 with ⟨e10, k1⟩ | ⟨e10, k1⟩
  · refine br_f (by rw [e10]; decide) ⟨by decide, ?_⟩
    refine ek_if (ky_rem0 (x := p + q) (d := 2) (ky_iadd p q) (by decide)) (fun d => ⟨by decide, ?_⟩) (fun d => ?_)
    · refine ky_283 S hp ?_ hT (Or.inl ⟨e10, k1⟩) h11
      rw [ky_iadd]
      exact ky_iq (g := 2) (by omega) (by omega) (by rcases mm with ⟨_, ⟨m, e1, _, e3⟩ | ⟨m, e1, _, e3⟩⟩ | ⟨z, _⟩ <;> omega)
    · refine ky_283 S hp ?_ hT (Or.inl ⟨e10, k1⟩) h11
      rw [ky_iadd]
      congr 1
      rcases mm with ⟨_, ⟨m, e1, _, e3⟩ | ⟨m, e1, _, e3⟩⟩ | ⟨z, _⟩ <;> omega
  · have e : MT = r := by
      rcases mm with ⟨z, _⟩ | ⟨z, e3, _⟩ <;> omega
    subst e
    exact br_t e10 (ky_283 S hp rfl hT (Or.inr ⟨e10, k1⟩) h11)
theorem ky_lawOf (p0 p1 p2 p3 : Int32) (hp : post 1 ()) : wpL_lawOf post 90 1424 () p0 p1 p2 p3 := by
  obtain ⟨p, bp, ep⟩ := ky_par p0
  obtain ⟨q, bq, eq⟩ := ky_par p1
  obtain ⟨r, br, er⟩ := ky_par p2
  obtain ⟨s, bs, es⟩ := ky_par5 p3
  obtain ⟨t, bt, et⟩ := ky_par5 (p3 >>> ((8 : Int32) &&& 31))
  obtain ⟨o, bo, eo⟩ := ky_par5 (p3 >>> ((16 : Int32) &&& 31))
  have m1 := ky_bm (x := r) (y := s + t) 20 10 (by omega) (by omega)
  have m2 := ky_bm (x := p + q) (y := o) 40 5 (by omega) (by omega)
  have e2r : 2 * ky_i r = ky_i (2 * r) := ky_imul 2 r
  have c140 : ∀ x10 x11 : Int32, ((x10 = 1 ∧ p + q ≤ 2 * r) ∨ (x10 = 0 ∧ 2 * r < p + q)) → ((x11 = 1 ∧ 2 * r ≤ p + q) ∨ (x11 = 0 ∧ p + q < 2 * r)) → wL_lawOf_114 post 90 1424 (ky_i p) (ky_i q) (ky_i r) (ky_i s) (ky_i t) (ky_i o) x10 x11 0 0 := by
    intro x10 x11 h10 h11
    unfold wL_lawOf_114
    rw [ky_iadd, ky_iadd, ky_imul, ky_imul]
    refine ek_if (ky_ilt (x := r * (s + t)) (y := (p + q) * o) rfl rfl) (fun z => ?_) (fun z => ?_)
    · exact br_t rfl (br_t rfl (ky_174 bp bq br bs bt bo hp (Or.inr ⟨rfl, z, rfl, rfl⟩) h10 h11))
    · refine br_f (by decide) (br_f (by decide) ?_)
      rw [ky_iadd, ky_iadd]
      exact ky_174 bp bq br bs bt bo hp (Or.inl ⟨rfl, by omega, rfl, rfl⟩) h10 h11
  have c95 : ∀ x10 : Int32, ((x10 = 1 ∧ p + q ≤ 2 * r) ∨ (x10 = 0 ∧ 2 * r < p + q)) → wL_lawOf_95 post 90 1424 (ky_i p) (ky_i q) (ky_i r) (ky_i s) (ky_i t) (ky_i o) x10 0 0 := by
    intro x10 h10
    refine ek_if (ky_ilt (x := p + q) (y := 2 * r) (ky_iadd p q) e2r) (fun z => c140 x10 0 h10 (Or.inr ⟨rfl, z⟩)) (fun z => c140 x10 1 h10 (Or.inl ⟨rfl, by omega⟩))
  refine ⟨by decide, nm_r ep ⟨by decide, nm_r eq ⟨by decide, nm_r er ⟨by decide, nm_r es ⟨by decide, nm_r et ⟨by decide, nm_r eo ?_⟩⟩⟩⟩⟩⟩
  exact ek_if (ky_ilt (x := 2 * r) (y := p + q) e2r (ky_iadd p q)) (fun z => c95 0 (Or.inr ⟨rfl, z⟩)) (fun z => c95 1 (Or.inl ⟨rfl, by omega⟩))
end
theorem ky_cell {post : Int32 → Prop} {L : Nat} {xs : Nat → Int32} (hL : L ≤ 4) (k : Nat) (hk : k < 4) (H : ∀ x, post x) : wpL_cellAt post L xs () (nI k) :=
  pk_le L k (fun _ => H _) (fun z => ⟨pk_in k L z, H _⟩)
theorem i_vc (xs : Nat → Int32) (L : Nat) (hL : L ≤ 4) : wpL_law (fun r => r = 1) L xs :=
  ky_cell hL 0 (by omega) (fun r1 => ky_cell hL 1 (by omega) (fun r2 => ky_cell hL 2 (by omega) (fun r3 => ky_cell hL 3 (by omega) (fun r4 => ⟨90, 1424, by omega, by omega, ky_lawOf r1 r2 r3 r4 rfl⟩))))
end
