section
theorem pk_us {f : Nat → Int32} {k : Nat} {x : Int32} : upd f k x k = x := if_pos rfl
theorem pk_un {f : Nat → Int32} {k j : Nat} {x : Int32} (h : j ≠ k) : upd f k x j = f j := if_neg h
theorem pk_uLs {f : Nat → Int64} {k : Nat} {x : Int64} : vp_updL f k x k = x := if_pos rfl
theorem pk_uLn {f : Nat → Int64} {k j : Nat} {x : Int64} (h : j ≠ k) : vp_updL f k x j = f j := if_neg h
theorem pk_mul (a b : Nat) : nI a * nI b = nI (a * b) := (Int32.ofNat_mul a b).symm
theorem pk_tn {n : Nat} (h : n < 2 ^ 32) : (nI n).toBitVec.toNat = n := Nat.mod_eq_of_lt h
theorem pk_charN {q : Nat} (hq : q < 65536) : narrow .char (.int (nI q)) = .int (nI q) ∧ fits .char (.int (nI q)) = true := by
  constructor
  · have e : (nI q).toUInt32.toUInt16.toUInt32.toInt32 = nI q := by
      apply Int32.toBitVec_inj.mp
      apply BitVec.eq_of_toNat_eq
      show (nI q).toUInt32.toUInt16.toUInt32.toNat = q % 2 ^ 32
      rw [UInt16.toNat_toUInt32, UInt32.toNat_toUInt16, show (nI q).toUInt32.toNat = q % 2 ^ 32 from rfl]
      omega
    exact congrArg Value.int e
  · have a : (0 : Int32) ≤ nI q := nI_pos' (by omega)
    have b : nI q ≤ 65535 := nI_le (b := 65535) (by omega) (by decide)
    show (decide ((0 : Int32) ≤ nI q) && decide (nI q ≤ 65535)) = true
    rw [decide_eq_true a, decide_eq_true b]
    rfl
theorem pk_char (x : Int32) : (x.toUInt32 % 65536).toInt32 = nI (x.toBitVec.toNat % 65536) := by
  apply Int32.toBitVec_inj.mp
  apply BitVec.eq_of_toNat_eq
  rw [pk_tn (by omega)]
  show (x.toUInt32 % 65536).toNat = _
  rw [UInt32.toNat_mod]
  rfl
theorem pk_nc (x : Int32) : narrow .char (.int (x.toUInt32 % 65536).toInt32) = .int (x.toUInt32 % 65536).toInt32 := by
  rw [pk_char]
  exact (pk_charN (Nat.mod_lt _ (by decide))).1
theorem pk_vb (z : Int32) : vp_nar .byte z.toInt8.toInt32 = z.toInt8.toInt32 := by rw [vp_nar_byte]; simp
theorem pk_vs (z : Int32) : vp_nar .short z.toInt16.toInt32 = z.toInt16.toInt32 := by rw [vp_nar_short]; simp
theorem pk_vc (z : Int32) : vp_nar .char (z.toUInt32 % 65536).toInt32 = (z.toUInt32 % 65536).toInt32 := Value.int.inj (pk_nc z)
theorem pk_lT {n : Nat} (h : n < 2 ^ 63) : (lN n).toInt = (n : Int) := lg_ofNat_toInt h
theorem pk_lLT {a b : Nat} (ha : a < 2 ^ 63) (hb : b < 2 ^ 63) : lN a < lN b ↔ a < b := by
  rw [Int64.lt_iff_toInt_lt, pk_lT ha, pk_lT hb]; omega
theorem pk_lLE {a b : Nat} (ha : a < 2 ^ 63) (hb : b < 2 ^ 63) : lN a ≤ lN b ↔ a ≤ b := by
  rw [Int64.le_iff_toInt_le, pk_lT ha, pk_lT hb]; omega
theorem pk_lEQ {a b : Nat} (ha : a < 2 ^ 63) (hb : b < 2 ^ 63) : lN a = lN b ↔ a = b := by
  rw [← Int64.toInt_inj, pk_lT ha, pk_lT hb]; omega
theorem pk_lOf {x : Int64} (h : ¬ x < 0) : ∃ k : Nat, k < 2 ^ 63 ∧ x = lN k := by
  rw [Int64.lt_iff_toInt_lt] at h
  have h0 : (0 : Int64).toInt = 0 := by decide
  have hx := Int64.toInt_lt x
  refine ⟨x.toInt.toNat, by omega, Int64.toInt_inj.mp ?_⟩
  rw [pk_lT (by omega)]
  omega
end
section
/-- where object i begins in the flat heap: the sum of the lengths before it -/
def zo_sm (L : Nat → Nat) : Nat → Nat
  | 0 => 0
  | i + 1 => zo_sm L i + L i
theorem zo_sm_s (L : Nat → Nat) (i : Nat) : zo_sm L (i + 1) = zo_sm L i + L i := rfl
theorem zo_sm_mono {L : Nat → Nat} {i j : Nat} (h : i ≤ j) : zo_sm L i ≤ zo_sm L j := by
  induction j with
  | zero =>
    have e : i = 0 := by omega
    rw [e]
    exact Nat.le_refl _
  | succ j ih =>
    rw [zo_sm_s]
    by_cases e : i = j + 1
    · rw [e, zo_sm_s]
      exact Nat.le_refl _
    · have := ih (by omega)
      omega
theorem zo_sm_end {L : Nat → Nat} {i c : Nat} (h : i ≤ c) : zo_sm L i + L i ≤ zo_sm L (c + 1) := zo_sm_mono (L := L) (i := i + 1) (j := c + 1) (by omega)
theorem zo_sm_congr {L L' : Nat → Nat} {i : Nat} (h : ∀ j, j < i → L' j = L j) : zo_sm L' i = zo_sm L i := by
  induction i with
  | zero => rfl
  | succ i ih =>
    rw [zo_sm_s, zo_sm_s, ih (fun j hj => h j (by omega)), h i (by omega)]
def zo_up (L : Nat → Nat) (k n : Nat) : Nat → Nat := fun j => if j = k then n else L j
theorem zo_up_s {L : Nat → Nat} {k n : Nat} : zo_up L k n k = n := if_pos rfl
theorem zo_up_n {L : Nat → Nat} {k n j : Nat} (h : j ≠ k) : zo_up L k n j = L j := if_neg h
/-- the kinds: an instance, an array of primitives, an array of references -/
def zo_Pl (t : Int32) : Prop := t = 1 ∨ t = 2
def zo_Pr (t : Int32) : Prop := t = 67 ∨ t = 74 ∨ t = 83
def zo_Rf (t : Int32) : Prop := t = 100 ∨ t = 101 ∨ t = 102
def zo_K (t : Int32) : Prop := zo_Pl t ∨ zo_Pr t ∨ zo_Rf t
theorem zo_pl_pr {t : Int32} (h : zo_Pl t) : ¬ zo_Pr t := by
  rcases h with rfl | rfl <;> (unfold zo_Pr; decide)
theorem zo_pl_rf {t : Int32} (h : zo_Pl t) : ¬ zo_Rf t := by
  rcases h with rfl | rfl <;> (unfold zo_Rf; decide)
theorem zo_pr_rf {t : Int32} (h : zo_Pr t) : ¬ zo_Rf t := by
  rcases h with rfl | rfl | rfl <;> (unfold zo_Rf; decide)
theorem zo_rf_pr {t : Int32} (h : zo_Rf t) : ¬ zo_Pr t := fun g => zo_pr_rf g h
/-- the layout -/
def zo_A (c : Nat) (L : Nat → Nat) (ty os ln : Nat → Int32) : Prop :=
  c ≤ 4 ∧ L 0 = 0 ∧ zo_sm L (c + 1) ≤ 16 ∧ (∀ i, ln i = nI (L i)) ∧ (∀ i, i ≤ c → os i = nI (zo_sm L i)) ∧ (∀ i, 1 ≤ i → i ≤ c → zo_K (ty i))
/-- the contents -/
def zo_B (c : Nat) (L : Nat → Nat) (ty : Nat → Int32) (cl ro : Nat → Int64) : Prop :=
  (∀ i, i ≤ c → ∀ p, p < L i → cl (zo_sm L i + p) = ro (i * 16 + p)) ∧ (∀ j, zo_sm L (c + 1) ≤ j → cl j = 0) ∧ (∀ j, (c + 1) * 16 ≤ j → ro j = 0) ∧
  (∀ i, i ≤ c → zo_Rf (ty i) → ∀ p, p < L i → ∃ m, m ≤ c ∧ cl (zo_sm L i + p) = lN m)
/-- the relation: one count, one layout, one row of types and of lengths, one temporary, one number of written cells -/
def i_Rel (k : Nat) (u : SX) (v : SY) : Prop :=
  ∃ (c : Nat) (L : Nat → Nat) (w : Int32) (ty os ln : Nat → Int32) (cl ro tp : Nat → Int64), zo_A c L ty os ln ∧ zo_B c L ty cl ro ∧
    u = (nI c, nI (zo_sm L (c + 1)), w, ty, os, ln, cl, tp) ∧ v = (nI c, w, ty, ln, ro, tp)
theorem zo_rel {k c : Nat} {L : Nat → Nat} {w : Int32} {ty os ln : Nat → Int32} {cl ro tp : Nat → Int64} (A : zo_A c L ty os ln) (B : zo_B c L ty cl ro) :
    i_Rel k (nI c, nI (zo_sm L (c + 1)), w, ty, os, ln, cl, tp) (nI c, w, ty, ln, ro, tp) := ⟨c, L, w, ty, os, ln, cl, ro, tp, A, B, rfl, rfl⟩
/-- one outcome for both sides -/
def zo_O (k : Nat) (X : (Int32 → SX → Prop) → Prop) (Y : (Int32 → SY → Prop) → Prop) : Prop :=
  ∃ (r : Int32) (u : SX) (v : SY), i_Rel k u v ∧ (∀ q : Int32 → SX → Prop, q r u → X q) ∧ (∀ q : Int32 → SY → Prop, q r v → Y q)
theorem zo_J {k : Nat} {X : (Int32 → SX → Prop) → Prop} {Y : (Int32 → SY → Prop) → Prop} (h : zo_O k X Y) : X (fun r u' => Y (fun r' v' => r' = r ∧ i_Rel k u' v')) := by
  obtain ⟨r, u, v, R, hX, hY⟩ := h
  exact hX _ (hY _ ⟨rfl, R⟩)
/-- a step of both sides ahead of an outcome -/
theorem zo_st {k : Nat} {X X' : (Int32 → SX → Prop) → Prop} {Y Y' : (Int32 → SY → Prop) → Prop} (h : zo_O k X Y) (hX : ∀ q, X q → X' q) (hY : ∀ q, Y q → Y' q) : zo_O k X' Y' := by
  obtain ⟨r, u, v, R, gX, gY⟩ := h
  exact ⟨r, u, v, R, fun q h => hX q (gX q h), fun q h => hY q (gY q h)⟩
theorem zo_len {c : Nat} {L : Nat → Nat} {ty os ln : Nat → Int32} (A : zo_A c L ty os ln) {i : Nat} (hi : i ≤ c) : zo_sm L i + L i ≤ 16 :=
  Nat.le_trans (zo_sm_end hi) A.2.2.1
/-- a store at place p of object i, on both sides -/
theorem zo_wr {c : Nat} {L : Nat → Nat} {ty os ln : Nat → Int32} {cl ro : Nat → Int64} (A : zo_A c L ty os ln) (B : zo_B c L ty cl ro) {i p : Nat} (hi : i ≤ c) (hp : p < L i) {x : Int64}
    (hx : zo_Rf (ty i) → ∃ m, m ≤ c ∧ x = lN m) : zo_B c L ty (vp_updL cl (zo_sm L i + p) x) (vp_updL ro (i * 16 + p) x) := by
  obtain ⟨B1, B2, B3, B4⟩ := B
  have hl := zo_len A hi
  have he := zo_sm_end (L := L) hi
  refine ⟨fun j hj q hq => ?_, fun j hj => ?_, fun j hj => ?_, fun j hj hr q hq => ?_⟩
  · have hl' := zo_len A hj
    by_cases e : j = i
    · subst e
      by_cases e2 : q = p
      · subst e2
        rw [pk_uLs, pk_uLs]
      · rw [pk_uLn (by omega), pk_uLn (by omega)]
        exact B1 j hj q hq
    · have d : zo_sm L j + q ≠ zo_sm L i + p := by
        by_cases g : j < i
        · have := zo_sm_mono (L := L) (i := j + 1) (j := i) (by omega)
          rw [zo_sm_s] at this
          omega
        · have := zo_sm_mono (L := L) (i := i + 1) (j := j) (by omega)
          rw [zo_sm_s] at this
          omega
      rw [pk_uLn d, pk_uLn (by omega)]
      exact B1 j hj q hq
  · rw [pk_uLn (by omega)]
    exact B2 j hj
  · rw [pk_uLn (by omega)]
    exact B3 j hj
  · by_cases e : zo_sm L j + q = zo_sm L i + p
    · have ej : j = i := by
        have h1 : j < i → False := fun g => by
          have := zo_sm_mono (L := L) (i := j + 1) (j := i) (by omega)
          rw [zo_sm_s] at this
          omega
        have h2 : i < j → False := fun g => by
          have := zo_sm_mono (L := L) (i := i + 1) (j := j) (by omega)
          rw [zo_sm_s] at this
          omega
        have h1' : ¬ j < i := h1
        have h2' : ¬ i < j := h2
        omega
      rw [e, pk_uLs]
      rw [ej] at hr
      exact hx hr
    · rw [pk_uLn e]
      exact B4 j hj hr q hq
/-- a new object -/
theorem zo_nwA {c : Nat} {L : Nat → Nat} {ty os ln : Nat → Int32} (A : zo_A c L ty os ln) (hc : c < 4) {n : Nat} (hn : zo_sm L (c + 1) + n ≤ 16) {t : Int32} (ht : zo_K t) :
    zo_A (c + 1) (zo_up L (c + 1) n) (upd ty (c + 1) t) (upd os (c + 1) (nI (zo_sm L (c + 1)))) (upd ln (c + 1) (nI n)) := by
  obtain ⟨A1, A2, A3, A4, A5, A6⟩ := A
  have hs : ∀ i, i ≤ c + 1 → zo_sm (zo_up L (c + 1) n) i = zo_sm L i := fun i hi => zo_sm_congr fun j hj => zo_up_n (by omega)
  refine ⟨by omega, (zo_up_n (by omega)).trans A2, ?_, fun i => ?_, fun i hi => ?_, fun i h1 hi => ?_⟩
  · rw [zo_sm_s, hs _ (Nat.le_refl _), zo_up_s]
    exact hn
  · by_cases e : i = c + 1
    · subst e
      rw [pk_us, zo_up_s]
    · rw [pk_un e, zo_up_n e]
      exact A4 i
  · rw [hs i hi]
    by_cases e : i = c + 1
    · subst e
      rw [pk_us]
    · rw [pk_un e]
      exact A5 i (by omega)
  · by_cases e : i = c + 1
    · subst e
      rw [pk_us]
      exact ht
    · rw [pk_un e]
      exact A6 i h1 (by omega)
theorem zo_nwS {c : Nat} {L : Nat → Nat} {n : Nat} : zo_sm (zo_up L (c + 1) n) (c + 1 + 1) = zo_sm L (c + 1) + n := by
  rw [zo_sm_s, zo_up_s, zo_sm_congr (L := L) fun j hj => zo_up_n (by omega)]
theorem zo_nwB {c : Nat} {L : Nat → Nat} {ty : Nat → Int32} {cl ro : Nat → Int64} (B : zo_B c L ty cl ro) {n : Nat} (hn : n ≤ 16) {t : Int32} :
    zo_B (c + 1) (zo_up L (c + 1) n) (upd ty (c + 1) t) cl ro := by
  obtain ⟨B1, B2, B3, B4⟩ := B
  have hs : ∀ i, i ≤ c + 1 → zo_sm (zo_up L (c + 1) n) i = zo_sm L i := fun i hi => zo_sm_congr fun j hj => zo_up_n (by omega)
  refine ⟨fun i hi p hp => ?_, fun j hj => ?_, fun j hj => ?_, fun i hi hr p hp => ?_⟩
  · rw [hs i hi]
    by_cases e : i = c + 1
    · subst e
      rw [B2 _ (by omega), B3 _ (by omega)]
    · rw [zo_up_n e] at hp
      exact B1 i (by omega) p hp
  · rw [zo_nwS] at hj
    exact B2 j (by omega)
  · exact B3 j (by omega)
  · rw [hs i hi]
    by_cases e : i = c + 1
    · subst e
      exact ⟨0, by omega, B2 _ (by omega)⟩
    · rw [zo_up_n e] at hp
      rw [pk_un e] at hr
      obtain ⟨m, hm, em⟩ := B4 i (by omega) hr p hp
      exact ⟨m, by omega, em⟩
/-- the casts -/
theorem zo_byte {t : Int32} (h : zo_K t) : vp_nar .byte t.toInt8.toInt32 = t := by
  rw [pk_vb]
  rcases h with (rfl | rfl) | (rfl | rfl | rfl) | (rfl | rfl | rfl) <;> decide
theorem zo_char {t : Int32} (h : zo_K t) : vp_nar .char (t.toUInt32 % 65536).toInt32 = t := by
  rw [pk_vc]
  rcases h with (rfl | rfl) | (rfl | rfl | rfl) | (rfl | rfl | rfl) <;> decide
theorem zo_sh : ∀ n, n < 17 → (nI n).toInt16.toInt32 = nI n := by decide +kernel
theorem zo_short {n : Nat} (h : n ≤ 16) : vp_nar .short (nI n).toInt16.toInt32 = nI n := by
  rw [pk_vs]
  exact zo_sh n (by omega)
theorem zo_mask (x : Int64) : x &&& 65535 = ((x.toInt32.toUInt32 % 65536).toInt32).toInt64 := by
  rw [pk_char, nI_l (by omega)]
  apply Int64.toBitVec_inj.mp
  apply BitVec.eq_of_toNat_eq
  rw [Int64.toBitVec_and, BitVec.toNat_and]
  show x.toBitVec.toNat &&& (2 ^ 16 - 1) = (BitVec.ofNat 64 (x.toInt32.toBitVec.toNat % 65536)).toNat
  rw [Nat.and_two_pow_sub_one_eq_mod, BitVec.toNat_ofNat]
  have e : x.toInt32.toBitVec.toNat = x.toBitVec.toNat % 2 ^ 32 := by
    rw [Int64.toBitVec_toInt32, BitVec.signExtend_eq_setWidth_of_le _ (by decide), BitVec.toNat_setWidth]
  rw [e]
  omega
theorem zo_pos {x : Int32} (h : ¬ x < 1) : ∃ i : Nat, 1 ≤ i ∧ i < 2 ^ 31 ∧ x = nI i := by
  have h1 : (1 : Int32).toInt = 1 := by decide
  have h0 : (0 : Int32).toInt = 0 := by decide
  rw [Int32.lt_iff_toInt_lt, h1] at h
  have hn : ¬ x < 0 := by
    rw [Int32.lt_iff_toInt_lt, h0]
    omega
  obtain ⟨j, hj, rfl⟩ := nI_of hn
  rw [nI_toInt hj] at h
  exact ⟨j, by omega, hj, rfl⟩
theorem zo_l {n : Nat} (h : n < 2 ^ 31) : (nI n).toInt64 = lN n := nI_l h
theorem zo_16 (a b : Nat) : nI a * 16 + nI b = nI (a * 16 + b) := by
  rw [← nI_add, ← pk_mul]
  rfl
end
section
theorem zo_p1 {q : Int32 → Prop} {u : SX} {t : Int32} (h : zo_Pr t) (hq : q 1) : wpX_isPrim q u t := by
  obtain ⟨a, b, c, d, e, f, g, i⟩ := u
  unfold wpX_isPrim
  dsimp only
  rcases h with rfl | rfl | rfl
  · exact br_t rfl hq
  · exact br_f (by decide) (br_t rfl hq)
  · exact br_f (by decide) (br_f (by decide) (br_t rfl hq))
theorem zo_p0 {q : Int32 → Prop} {u : SX} {t : Int32} (h : ¬ zo_Pr t) (hq : q 0) : wpX_isPrim q u t := by
  obtain ⟨a, b, c, d, e, f, g, i⟩ := u
  unfold wpX_isPrim
  dsimp only
  exact br_f (fun z => h (Or.inl z)) (br_f (fun z => h (Or.inr (Or.inl z))) (br_f (fun z => h (Or.inr (Or.inr z))) hq))
theorem zo_r1 {q : Int32 → Prop} {u : SX} {t : Int32} (h : zo_Rf t) (hq : q 1) : wpX_isRef q u t := by
  obtain ⟨a, b, c, d, e, f, g, i⟩ := u
  unfold wpX_isRef
  dsimp only
  rcases h with rfl | rfl | rfl
  · exact br_t rfl hq
  · exact br_f (by decide) (br_t rfl hq)
  · exact br_f (by decide) (br_f (by decide) (br_t rfl hq))
theorem zo_r0 {q : Int32 → Prop} {u : SX} {t : Int32} (h : ¬ zo_Rf t) (hq : q 0) : wpX_isRef q u t := by
  obtain ⟨a, b, c, d, e, f, g, i⟩ := u
  unfold wpX_isRef
  dsimp only
  exact br_f (fun z => h (Or.inl z)) (br_f (fun z => h (Or.inr (Or.inl z))) (br_f (fun z => h (Or.inr (Or.inr z))) hq))
theorem zo_g1 {q : Int32 → Prop} {t : Int32} (h : zo_Pl t) (hq : q 1) : wpY_group q t := by
  unfold wpY_group
  rcases h with rfl | rfl
  · exact br_t rfl hq
  · exact br_f (by decide) (br_t rfl hq)
theorem zo_g2 {q : Int32 → Prop} {t : Int32} (h : zo_Pr t) (hq : q 2) : wpY_group q t := by
  unfold wpY_group
  rcases h with rfl | rfl | rfl
  · exact br_f (by decide) (br_f (by decide) (br_t rfl hq))
  · exact br_f (by decide) (br_f (by decide) (br_f (by decide) (br_t rfl hq)))
  · exact br_f (by decide) (br_f (by decide) (br_f (by decide) (br_f (by decide) (br_t rfl hq))))
theorem zo_g3 {q : Int32 → Prop} {t : Int32} (h : zo_Rf t) (hq : q 3) : wpY_group q t := by
  unfold wpY_group
  rcases h with rfl | rfl | rfl
  · exact br_f (by decide) (br_f (by decide) (br_f (by decide) (br_f (by decide) (br_f (by decide) (br_t rfl hq)))))
  · exact br_f (by decide) (br_f (by decide) (br_f (by decide) (br_f (by decide) (br_f (by decide) (br_f (by decide) (br_t rfl hq))))))
  · exact br_f (by decide) (br_f (by decide) (br_f (by decide) (br_f (by decide) (br_f (by decide) (br_f (by decide) (br_f (by decide) (br_t rfl hq)))))))
theorem zo_g0 {q : Int32 → Prop} {t : Int32} (h : ¬ zo_K t) (hq : q 0) : wpY_group q t := by
  unfold wpY_group
  exact br_f (fun z => h (Or.inl (Or.inl z))) (br_f (fun z => h (Or.inl (Or.inr z)))
    (br_f (fun z => h (Or.inr (Or.inl (Or.inl z)))) (br_f (fun z => h (Or.inr (Or.inl (Or.inr (Or.inl z))))) (br_f (fun z => h (Or.inr (Or.inl (Or.inr (Or.inr z)))))
    (br_f (fun z => h (Or.inr (Or.inr (Or.inl z)))) (br_f (fun z => h (Or.inr (Or.inr (Or.inr (Or.inl z))))) (br_f (fun z => h (Or.inr (Or.inr (Or.inr (Or.inr z))))) hq)))))))
/-- an array, seen by the component -/
theorem zo_ar {A C : Prop} {u : SX} {t : Int32} (h : zo_Pr t ∨ zo_Rf t) (hc : C) :
    wpX_isPrim (fun r => (r = 0 → wpX_isRef (fun s => (s = 0 → A) ∧ (¬ s = 0 → C)) u t) ∧ (¬ r = 0 → C)) u t := by
  rcases h with h | h
  · exact zo_p1 h (br_f (by decide) hc)
  · exact zo_p0 (zo_rf_pr h) (br_t rfl (zo_r1 h (br_f (by decide) hc)))
/-- an instance, seen by the component -/
theorem zo_na {A C : Prop} {u : SX} {t : Int32} (h : ¬ zo_Pr t) (h' : ¬ zo_Rf t) (hc : A) :
    wpX_isPrim (fun r => (r = 0 → wpX_isRef (fun s => (s = 0 → A) ∧ (¬ s = 0 → C)) u t) ∧ (¬ r = 0 → C)) u t :=
  zo_p0 h (br_t rfl (zo_r0 h' (br_t rfl hc)))
/-- whether a handle whose type is t may stand in an array of type a -/
def zo_an (t a : Int32) : Int32 := if a = 100 then 1 else if a = 101 then (if t = 1 ∨ t = 2 then 1 else 0) else (if t = 2 then 1 else 0)
theorem zo_asX {q : Int32 → Prop} {f1 f2 f3 : Int32} {ty os ln : Nat → Int32} {cl tp : Nat → Int64} {m : Nat} (h1 : 1 ≤ m) (h4 : m ≤ 4) {a : Int32} (ha : zo_Rf a) (hq : q (zo_an (ty m) a)) :
    wpX_assignable q (f1, f2, f3, ty, os, ln, cl, tp) (nI m) a := by
  unfold wpX_assignable
  dsimp only
  rw [nI_clamp (by omega)]
  refine br_f (nI_ne0 (by omega) (by omega)) ?_
  unfold zo_an at hq
  rcases ha with rfl | rfl | rfl
  · exact br_t rfl hq
  · refine br_f (by decide) ⟨vp_in_nI (by omega) (by omega), nm_e (br_t rfl ?_)⟩
    rw [if_neg (by decide), if_pos rfl] at hq
    by_cases e1 : ty m = 1
    · rw [if_pos (Or.inl e1)] at hq
      exact br_t e1 hq
    · by_cases e2 : ty m = 2
      · rw [if_pos (Or.inr e2)] at hq
        exact br_f e1 (br_t e2 hq)
      · rw [if_neg (fun z => z.elim e1 e2)] at hq
        exact br_f e1 (br_f e2 hq)
  · refine br_f (by decide) ⟨vp_in_nI (by omega) (by omega), nm_e (br_f (by decide) (br_t rfl ?_))⟩
    rw [if_neg (by decide), if_neg (by decide)] at hq
    by_cases e2 : ty m = 2
    · rw [if_pos e2] at hq
      exact br_t e2 hq
    · rw [if_neg e2] at hq
      exact br_f e2 hq
section
variable {q : Int32 → Prop} {f1 f2 : Int32} {kd ln : Nat → Int32} {ro tp : Nat → Int64}
theorem zo_f00 (h : q 1) : wY_fits_38 q 0 f1 f2 kd ln ro tp 4 0 0 := br_f (by decide) (br_t rfl h)
theorem zo_f10 (h : q 1) : wY_fits_38 q 0 f1 f2 kd ln ro tp 4 1 0 := br_f (by decide) (br_f (by decide) (br_f (by decide) (nm_e (nm_e (br_f (by decide) (br_t (by decide) h))))))
theorem zo_f20 (h : q 1) : wY_fits_38 q 0 f1 f2 kd ln ro tp 4 2 0 :=
  br_f (by decide) (br_f (by decide) (br_f (by decide) (nm_e (nm_e (br_f (by decide) (br_f (by decide) (br_f (by decide) (nm_e (nm_e (br_f (by decide) (br_t (by decide) h)))))))))))
theorem zo_f11 (h : q 1) : wY_fits_38 q 1 f1 f2 kd ln ro tp 4 1 0 := br_f (by decide) (br_t rfl h)
theorem zo_f22 (h : q 1) : wY_fits_38 q 2 f1 f2 kd ln ro tp 4 2 0 := br_f (by decide) (br_t rfl h)
theorem zo_f21 (h : q 1) : wY_fits_38 q 1 f1 f2 kd ln ro tp 4 2 0 := br_f (by decide) (br_f (by decide) (br_f (by decide) (nm_e (nm_e (br_f (by decide) (br_t (by decide) h))))))
theorem zo_f01 (h : q 0) : wY_fits_38 q 1 f1 f2 kd ln ro tp 4 0 0 :=
  br_f (by decide) (br_f (by decide) (br_t (by decide) (nm_e (br_f (by decide) (br_f (by decide) (br_t (by decide) (nm_e (br_f (by decide) (br_f (by decide) (br_t (by decide) (nm_e (br_t (by decide) h))))))))))))
theorem zo_f02 (h : q 0) : wY_fits_38 q 2 f1 f2 kd ln ro tp 4 0 0 :=
  br_f (by decide) (br_f (by decide) (br_t (by decide) (nm_e (br_f (by decide) (br_f (by decide) (br_t (by decide) (nm_e (br_f (by decide) (br_f (by decide) (br_t (by decide) (nm_e (br_t (by decide) h))))))))))))
theorem zo_f12 (h : q 0) : wY_fits_38 q 2 f1 f2 kd ln ro tp 4 1 0 :=
  br_f (by decide) (br_f (by decide) (br_f (by decide) (nm_e (nm_e (br_f (by decide) (br_f (by decide) (br_t (by decide) (nm_e (br_f (by decide) (br_f (by decide) (br_t (by decide) (nm_e (br_t (by decide) h)))))))))))))
end
theorem zo_m7 : ∀ m, m < 8 → (lN m).toInt32 &&& 7 = nI m := by decide +kernel
theorem zo_asY {q : Int32 → Prop} {f1 f2 : Int32} {ty ln : Nat → Int32} {ro tp : Nat → Int64} {m : Nat} (h1 : 1 ≤ m) (h4 : m ≤ 4) (hk : zo_K (ty m)) {a : Int32} (ha : zo_Rf a) (hq : q (zo_an (ty m) a)) :
    wpY_fits q (f1, f2, ty, ln, ro, tp) (lN m) a := by
  have e7 : (lN m).toInt32 &&& 7 = nI m := zo_m7 m (by omega)
  have n0 : ¬ lN m = 0 := fun z => by
    have := (lN_eq (a := m) (b := 0) (by omega) (by omega)).mp z
    omega
  unfold wpY_fits
  dsimp only
  rw [e7, nI_clamp (by omega)]
  refine br_f n0 ⟨vp_in_nI (by omega) (by omega), ?_⟩
  refine nm_e ?_
  have s0 : (100 : Int32) - 100 = 0 := by decide
  have s1 : (101 : Int32) - 100 = 1 := by decide
  have s2 : (102 : Int32) - 100 = 2 := by decide
  generalize ty m = t at hk hq
  have big : ¬ t ≤ 2 → ¬ (t = 1 ∨ t = 2) := fun h z => h (by rcases z with rfl | rfl <;> decide)
  rcases hk with (rfl | rfl) | hk
  · refine br_t (by decide) ?_
    rcases ha with rfl | rfl | rfl
    · exact nm_r s0 ⟨4, zo_f10 hq⟩
    · exact nm_r s1 ⟨4, zo_f11 hq⟩
    · exact nm_r s2 ⟨4, zo_f12 hq⟩
  · refine br_t (by decide) ?_
    rcases ha with rfl | rfl | rfl
    · exact nm_r s0 ⟨4, zo_f20 hq⟩
    · exact nm_r s1 ⟨4, zo_f21 hq⟩
    · exact nm_r s2 ⟨4, zo_f22 hq⟩
  · have hb : ¬ t ≤ 2 := by rcases hk with (rfl | rfl | rfl) | (rfl | rfl | rfl) <;> decide
    refine br_f hb ?_
    have hn := big hb
    unfold zo_an at hq
    rcases ha with rfl | rfl | rfl
    · exact nm_r s0 ⟨4, zo_f00 hq⟩
    · rw [if_neg (by decide), if_pos rfl, if_neg hn] at hq
      exact nm_r s1 ⟨4, zo_f01 hq⟩
    · rw [if_neg (by decide), if_neg (by decide), if_neg (fun z => hn (Or.inr z))] at hq
      exact nm_r s2 ⟨4, zo_f02 hq⟩
/-- one answer for both sides -/
theorem zo_asg {c : Nat} {L : Nat → Nat} {ty os ln : Nat → Int32} (A : zo_A c L ty os ln) {m : Nat} (hm : m ≤ c) {a : Int32} (ha : zo_Rf a) :
    ∃ r : Int32, (∀ (q : Int32 → Prop) (f1 f2 f3 : Int32) (cl tp : Nat → Int64), q r → wpX_assignable q (f1, f2, f3, ty, os, ln, cl, tp) (lN m).toInt32 a) ∧
      (∀ (q : Int32 → Prop) (f1 f2 : Int32) (ro tp : Nat → Int64), q r → wpY_fits q (f1, f2, ty, ln, ro, tp) (lN m) a) := by
  have h4 := A.1
  rw [lN_i]
  by_cases h0 : m = 0
  · subst h0
    refine ⟨1, fun q f1 f2 f3 cl tp hq => ?_, fun q f1 f2 ro tp hq => ?_⟩
    · unfold wpX_assignable
      exact br_t rfl hq
    · unfold wpY_fits
      exact br_t rfl hq
  · exact ⟨zo_an (ty m) a, fun q f1 f2 f3 cl tp hq => zo_asX (by omega) (by omega) ha hq, fun q f1 f2 ro tp hq => zo_asY (by omega) (by omega) (A.2.2.2.2.2 m (by omega) hm) ha hq⟩
end
section
/-- the reference sums the lengths -/
theorem zo_yl {q : Int32 → SY → Prop} {t : Int32} {n c : Nat} {L : Nat → Nat} {w : Int32} {ty ln : Nat → Int32} {ro tp : Nat → Int64} (hc : c ≤ 4) (hln : ∀ i, ln i = nI (L i)) (hL : ∀ i, i ≤ c → L i ≤ 16)
    (h : wY_alloc_43 q t (nI n) (nI c) w ty ln ro tp (0 + 1) (lN (n + zo_sm L (c + 1))) (nI (c + 1))) :
    ∀ d i, i + d = c + 1 → wY_alloc_43 q t (nI n) (nI c) w ty ln ro tp (d + 1) (lN (n + zo_sm L i)) (nI i) := by
  intro d
  induction d with
  | zero =>
    intro i hi
    have e : i = c + 1 := by omega
    subst e
    exact h
  | succ d ih =>
    intro i hi
    have hLi := hL i (by omega)
    rw [wY_alloc_43]
    refine br_f (nI_nlt (by omega) (by omega)) ⟨vp_in_nI (by omega) (by omega), ?_⟩
    rw [nI_clamp (by omega), hln i]
    refine nm_r (e' := lN (n + zo_sm L (i + 1))) ?_ (nm_r (nI_1 i) (ih (i + 1) (by omega)))
    rw [zo_l (by omega), lN_add, zo_sm_s, Nat.add_assoc]
theorem zo_al {k c : Nat} {L : Nat → Nat} {w : Int32} {ty os ln : Nat → Int32} {cl ro tp : Nat → Int64} (A : zo_A c L ty os ln) (B : zo_B c L ty cl ro) {t : Int32} (ht : zo_K t) {n : Nat} (hn : n < 2 ^ 31) :
    zo_O k (fun q => wX_alloc_59 q t (nI n) (nI c) (nI (zo_sm L (c + 1))) w ty os ln cl tp) (fun q => wY_alloc_18 q t (nI n) (nI c) w ty ln ro tp) := by
  have R : i_Rel k (nI c, nI (zo_sm L (c + 1)), w, ty, os, ln, cl, tp) (nI c, w, ty, ln, ro, tp) := zo_rel A B
  have hc := A.1
  have hU := A.2.2.1
  have hp0 : (0 : Int32) ≤ nI n := nI_pos' hn
  by_cases c4 : c < 4
  · have hcX : nI c < 4 := nI_lt (b := 4) c4 (by decide)
    have eX : (nI (zo_sm L (c + 1))).toInt64 + (nI n).toInt64 = lN (zo_sm L (c + 1) + n) := by
      rw [zo_l (by omega), zo_l hn, lN_add]
    have e1 : zo_sm L 1 = 0 := by
      show 0 + L 0 = 0
      rw [A.2.1]
    have eY : (nI n).toInt64 = lN (n + zo_sm L 1) := by rw [zo_l hn, e1, Nat.add_zero]
    have hL : ∀ i, i ≤ c → L i ≤ 16 := fun i hi => by
      have := zo_len A hi
      omega
    have hlt : nI c < nI (c + 1) := nI_lt (by omega) (by omega)
    by_cases hs : zo_sm L (c + 1) + n ≤ 16
    · have hX : lN (zo_sm L (c + 1) + n) ≤ 16 := (pk_lLE (b := 16) (by omega) (by omega)).mpr hs
      have hY : lN (n + zo_sm L (c + 1)) ≤ 16 := (pk_lLE (b := 16) (by omega) (by omega)).mpr (by omega)
      have ec : (nI (c + 1)).toNatClampNeg = c + 1 := nI_clamp (by omega)
      have v5 : vp_in (nI (c + 1)) 5 := vp_in_nI (by omega) (by omega)
      have v8 : vp_in (nI (c + 1)) 8 := vp_in_nI (by omega) (by omega)
      refine ⟨nI (c + 1), _, _, zo_rel (w := w) (tp := tp) (zo_nwA A c4 hs ht) (zo_nwB B (n := n) (t := t) (by omega)), fun q h => ?_, fun q h => ?_⟩
      · rw [zo_nwS] at h
        unfold wX_alloc_59
        rw [eX]
        exact br_t hcX (br_t hX (nm_r (nI_1 c) ⟨v5, nm_r (by rw [ec, zo_byte ht]) ⟨v5, nm_r (by rw [ec, zo_short (by omega)]) ⟨v5, nm_r (by rw [ec, zo_short (by omega)]) (nm_r (nI_add _ _) h)⟩⟩⟩))
      · unfold wY_alloc_18
        refine br_t hp0 (br_t hcX ⟨c + 1, ?_⟩)
        rw [eY]
        refine zo_yl hc A.2.2.2.1 hL ?_ c 1 (by omega)
        rw [wY_alloc_43]
        exact br_t hlt (br_t hY (nm_r (nI_1 c) (nm_r (nI_1 c) ⟨v8, nm_r (by rw [ec, zo_char ht]) ⟨v8, nm_r (by rw [ec, zo_short (by omega)]) h⟩⟩)))
    · have hX : ¬ lN (zo_sm L (c + 1) + n) ≤ 16 := fun z => hs ((pk_lLE (b := 16) (by omega) (by omega)).mp z)
      have hY : ¬ lN (n + zo_sm L (c + 1)) ≤ 16 := fun z => hs (by
        have := (pk_lLE (b := 16) (by omega) (by omega)).mp z
        omega)
      refine ⟨-4, _, _, R, fun q h => ?_, fun q h => ?_⟩
      · unfold wX_alloc_59
        rw [eX]
        exact br_t hcX (br_f hX h)
      · unfold wY_alloc_18
        refine br_t hp0 (br_t hcX ⟨c + 1, ?_⟩)
        rw [eY]
        refine zo_yl hc A.2.2.2.1 hL ?_ c 1 (by omega)
        rw [wY_alloc_43]
        exact br_t hlt (br_f hY h)
  · have hcX : ¬ nI c < 4 := nI_nlt (b := 4) (by omega) (by omega)
    exact ⟨-3, _, _, R, fun q h => br_f hcX h, fun q h => br_t hp0 (br_f hcX h)⟩
theorem zo_alloc {k c : Nat} {L : Nat → Nat} {w : Int32} {ty os ln : Nat → Int32} {cl ro tp : Nat → Int64} (A : zo_A c L ty os ln) (B : zo_B c L ty cl ro) (t x : Int32) :
    zo_O k (fun q => wpX_alloc q (nI c, nI (zo_sm L (c + 1)), w, ty, os, ln, cl, tp) t x) (fun q => wpY_alloc q (nI c, w, ty, ln, ro, tp) t x) := by
  have R : i_Rel k (nI c, nI (zo_sm L (c + 1)), w, ty, os, ln, cl, tp) (nI c, w, ty, ln, ro, tp) := zo_rel A B
  by_cases hl : zo_Pl t
  · refine zo_st (zo_al (w := w) (tp := tp) A B (Or.inl hl) (n := 0) (by decide)) (fun q h => ?_) (fun q h => ?_)
    · have g : wX_alloc_10 q t x (nI c) (nI (zo_sm L (c + 1))) w ty os ln cl tp := by
        unfold wX_alloc_10 wX_alloc_15 wX_alloc_38
        exact br_f (by decide) (br_f (by decide) h)
      unfold wpX_alloc
      exact br_c (fun _ => g) (fun n1 => br_c (fun _ => g) (fun n2 => absurd hl (fun z => z.elim n1 n2)))
    · unfold wpY_alloc
      exact zo_g1 hl (br_f (by decide) (br_t rfl h))
  · have n1 : ¬ t = 1 := fun z => hl (Or.inl z)
    have n2 : ¬ t = 2 := fun z => hl (Or.inr z)
    by_cases ha : zo_Pr t ∨ zo_Rf t
    · have hX : ∀ q, wX_alloc_38 q t x 0 (nI c) (nI (zo_sm L (c + 1))) w ty os ln cl tp → wpX_alloc q (nI c, nI (zo_sm L (c + 1)), w, ty, os, ln, cl, tp) t x := fun q h => by
        unfold wpX_alloc
        dsimp only
        refine br_f n1 (br_f n2 ?_)
        unfold wX_alloc_15
        exact br_t rfl (zo_ar ha h)
      have hY : ∀ q, wY_alloc_18 q t x (nI c) w ty ln ro tp → wpY_alloc q (nI c, w, ty, ln, ro, tp) t x := fun q h => by
        unfold wpY_alloc
        dsimp only
        rcases ha with ha | ha
        · exact zo_g2 ha (br_f (by decide) (br_f (by decide) h))
        · exact zo_g3 ha (br_f (by decide) (br_f (by decide) h))
      by_cases h0 : x < 0
      · have hn : ¬ 0 ≤ x := fun z => absurd h0 (Int32.not_lt.mpr z)
        exact ⟨-2, _, _, R, fun q h => hX q (br_t rfl (br_f hn h)), fun q h => hY q (br_f hn h)⟩
      · have hp : 0 ≤ x := Int32.not_lt.mp h0
        obtain ⟨n, hn, rfl⟩ := nI_of h0
        exact zo_st (zo_al (w := w) (tp := tp) A B (Or.inr ha) hn) (fun q h => hX q (br_t rfl (br_t hp h))) hY
    · refine ⟨-1, _, _, R, fun q h => ?_, fun q h => ?_⟩
      · unfold wpX_alloc
        dsimp only
        refine br_f n1 (br_f n2 ?_)
        unfold wX_alloc_15
        exact br_t rfl (zo_na (fun z => ha (Or.inl z)) (fun z => ha (Or.inr z)) h)
      · unfold wpY_alloc
        dsimp only
        exact zo_g0 (fun z => z.elim hl ha) (br_t rfl h)
end
section
theorem zo_wX {q : Int32 → SX → Prop} {c : Nat} {L : Nat → Nat} {ty os ln : Nat → Int32} (A : zo_A c L ty os ln) {i p : Nat} (hi : i ≤ c) (hp : p < L i) {x : Int64} {U w : Int32} {cl tp : Nat → Int64}
    (h : q 0 (nI c, U, w, ty, os, ln, vp_updL cl (zo_sm L i + p) x, tp)) : wX_put_137 q (nI i) (nI p) x (nI c) U w ty os ln cl tp := by
  have hl := zo_len A hi
  have hc := A.1
  have e : os (nI i).toNatClampNeg + nI p = nI (zo_sm L i + p) := by rw [nI_clamp (by omega), A.2.2.2.2.1 i hi, nI_add]
  unfold wX_put_137
  rw [e, nI_clamp (n := zo_sm L i + p) (by omega)]
  exact ⟨vp_in_nI (by omega) (by omega), vp_in_nI (by omega) (by omega), nm_e h⟩
theorem zo_wY {q : Int32 → SY → Prop} {c : Nat} {L : Nat → Nat} {ty os ln : Nat → Int32} (A : zo_A c L ty os ln) {i p : Nat} (hi : i ≤ c) (hp : p < L i) {x : Int64} {w : Int32} {ro tp : Nat → Int64}
    (h : q 0 (nI c, w, ty, ln, vp_updL ro (i * 16 + p) x, tp)) : wY_put_121 q (nI i) (nI p) x (nI c) w ty ln ro tp := by
  have hl := zo_len A hi
  have hc := A.1
  unfold wY_put_121 wpY_store
  dsimp only
  rw [zo_16, nI_clamp (by omega)]
  exact ⟨vp_in_nI (by omega) (by omega), nm_e h⟩
theorem zo_pw {k c : Nat} {L : Nat → Nat} {w : Int32} {ty os ln : Nat → Int32} {cl ro tp : Nat → Int64} (A : zo_A c L ty os ln) (B : zo_B c L ty cl ro) {i p : Nat} (hi : i ≤ c) (hp : p < L i) {x : Int64}
    (hx : zo_Rf (ty i) → ∃ m, m ≤ c ∧ x = lN m) :
    zo_O k (fun q => wX_put_137 q (nI i) (nI p) x (nI c) (nI (zo_sm L (c + 1))) w ty os ln cl tp) (fun q => wY_put_121 q (nI i) (nI p) x (nI c) w ty ln ro tp) :=
  ⟨0, _, _, zo_rel (w := w) (tp := tp) A (zo_wr A B hi hp hx), fun _ h => zo_wX A hi hp h, fun _ h => zo_wY A hi hp h⟩
theorem zo_put {k c : Nat} {L : Nat → Nat} {w : Int32} {ty os ln : Nat → Int32} {cl ro tp : Nat → Int64} (A : zo_A c L ty os ln) (B : zo_B c L ty cl ro) (v1 v2 : Int32) (a : Int64) :
    zo_O k (fun q => wpX_put q (nI c, nI (zo_sm L (c + 1)), w, ty, os, ln, cl, tp) v1 v2 a) (fun q => wpY_put q (nI c, w, ty, ln, ro, tp) v1 v2 a) := by
  have R : i_Rel k (nI c, nI (zo_sm L (c + 1)), w, ty, os, ln, cl, tp) (nI c, w, ty, ln, ro, tp) := zo_rel A B
  have hc := A.1
  by_cases h0 : v1 < 0
  · exact ⟨4, _, _, R, fun q h => br_t h0 h, fun q h => br_t h0 h⟩
  obtain ⟨i, hi, rfl⟩ := nI_of h0
  by_cases hic' : ¬ i ≤ c
  · have g : ¬ nI i ≤ nI c := nI_ge (by omega) (by omega)
    exact ⟨4, _, _, R, fun q h => br_f h0 (br_f g h), fun q h => br_f h0 (br_f g h)⟩
  have hic : i ≤ c := by omega
  have g : nI i ≤ nI c := nI_le hic (by omega)
  by_cases hz : i = 0
  · subst hz
    exact ⟨1, _, _, R, fun q h => br_f h0 (br_t g (br_t rfl h)), fun q h => br_f h0 (br_t g (br_t rfl h))⟩
  have hz' : ¬ nI i = 0 := nI_ne0 (by omega) hi
  have v5 : vp_in (nI i) 5 := vp_in_nI (by omega) (by omega)
  have v8 : vp_in (nI i) 8 := vp_in_nI (by omega) (by omega)
  have ec : (nI i).toNatClampNeg = i := nI_clamp hi
  have el : ln i = nI (L i) := A.2.2.2.1 i
  have hlen := zo_len A hic
  rcases (A.2.2.2.2.2 i (by omega) hic) with hk | hk
  · refine ⟨4, _, _, R, fun q h => ?_, fun q h => ?_⟩
    · unfold wpX_put
      dsimp only
      rw [ec]
      exact br_f h0 (br_t g (br_f hz' ⟨v5, nm_e (zo_na (zo_pl_pr hk) (zo_pl_rf hk) h)⟩))
    · unfold wpY_put
      dsimp only
      rw [ec]
      exact br_f h0 (br_t g (br_f hz' ⟨v8, nm_e (zo_g1 hk (br_t rfl h))⟩))
  have hX : ∀ q, wX_put_48 q (nI i) v2 a (ty i) (nI c) (nI (zo_sm L (c + 1))) w ty os ln cl tp → wpX_put q (nI c, nI (zo_sm L (c + 1)), w, ty, os, ln, cl, tp) (nI i) v2 a := fun q h => by
    unfold wpX_put
    dsimp only
    rw [ec]
    exact br_f h0 (br_t g (br_f hz' ⟨v5, nm_e (zo_ar hk h)⟩))
  by_cases j0 : v2 < 0
  · refine ⟨3, _, _, R, fun q h => hX q (br_t j0 h), fun q h => ?_⟩
    unfold wpY_put
    dsimp only
    rw [ec]
    rcases hk with hk | hk
    · exact br_f h0 (br_t g (br_f hz' ⟨v8, nm_e (zo_g2 hk (br_f (by decide) (br_t j0 h)))⟩))
    · exact br_f h0 (br_t g (br_f hz' ⟨v8, nm_e (zo_g3 hk (br_f (by decide) (br_t j0 h)))⟩))
  obtain ⟨p, hp, rfl⟩ := nI_of j0
  by_cases hpl' : ¬ p < L i
  · have gl : ¬ nI p < nI (L i) := nI_nlt (by omega) hp
    refine ⟨3, _, _, R, fun q h => hX q ?_, fun q h => ?_⟩
    · unfold wX_put_48
      rw [ec, el]
      exact br_f j0 ⟨v5, br_f gl h⟩
    · unfold wpY_put
      dsimp only
      rw [ec, el]
      rcases hk with hk | hk
      · exact br_f h0 (br_t g (br_f hz' ⟨v8, nm_e (zo_g2 hk (br_f (by decide) (br_f j0 ⟨v8, br_f gl h⟩)))⟩))
      · exact br_f h0 (br_t g (br_f hz' ⟨v8, nm_e (zo_g3 hk (br_f (by decide) (br_f j0 ⟨v8, br_f gl h⟩)))⟩))
  have hpl : p < L i := by omega
  have gl : nI p < nI (L i) := nI_lt hpl (by omega)
  rcases hk with hk | hk
  · have hnr := zo_pr_rf hk
    have W : ∀ x : Int64, zo_O k (fun q => wX_put_137 q (nI i) (nI p) x (nI c) (nI (zo_sm L (c + 1))) w ty os ln cl tp) (fun q => wY_put_121 q (nI i) (nI p) x (nI c) w ty ln ro tp) :=
      fun x => zo_pw A B hic hpl (fun z => absurd z hnr)
    by_cases e83 : ty i = 83
    · refine zo_st (W a.toInt32.toInt16.toInt32.toInt64) (fun q h => hX q ?_) (fun q h => ?_)
      · unfold wX_put_48
        rw [ec, el]
        exact br_f j0 ⟨v5, br_t gl (zo_r0 hnr (br_t rfl (br_t e83 h)))⟩
      · unfold wpY_put
        dsimp only
        rw [ec, el]
        exact br_f h0 (br_t g (br_f hz' ⟨v8, nm_e (zo_g2 hk (br_f (by decide) (br_f j0 ⟨v8, br_t gl (zo_g2 hk (br_f (by decide) (br_t e83 h)))⟩)))⟩))
    by_cases e67 : ty i = 67
    · refine zo_st (W (a &&& 65535)) (fun q h => hX q ?_) (fun q h => ?_)
      · unfold wX_put_48
        rw [ec, el]
        exact br_f j0 ⟨v5, br_t gl (zo_r0 hnr (br_t rfl (br_f e83 (br_t e67 (nm_e h)))))⟩
      · rw [zo_mask] at h
        unfold wpY_put
        dsimp only
        rw [ec, el]
        exact br_f h0 (br_t g (br_f hz' ⟨v8, nm_e (zo_g2 hk (br_f (by decide) (br_f j0 ⟨v8, br_t gl (zo_g2 hk (br_f (by decide) (br_f e83 (br_t e67 (nm_e h)))))⟩)))⟩))
    · refine zo_st (W a) (fun q h => hX q ?_) (fun q h => ?_)
      · unfold wX_put_48
        rw [ec, el]
        exact br_f j0 ⟨v5, br_t gl (zo_r0 hnr (br_t rfl (br_f e83 (br_f e67 h))))⟩
      · unfold wpY_put
        dsimp only
        rw [ec, el]
        exact br_f h0 (br_t g (br_f hz' ⟨v8, nm_e (zo_g2 hk (br_f (by decide) (br_f j0 ⟨v8, br_t gl (zo_g2 hk (br_f (by decide) (br_f e83 (br_f e67 h))))⟩)))⟩))
  · have e64 : (nI c).toInt64 = lN c := zo_l (by omega)
    by_cases a0 : a < 0
    · refine ⟨4, _, _, R, fun q h => hX q ?_, fun q h => ?_⟩
      · unfold wX_put_48
        rw [ec, el]
        exact br_f j0 ⟨v5, br_t gl (zo_r1 hk (br_f (by decide) (br_t a0 h)))⟩
      · unfold wpY_put
        dsimp only
        rw [ec, el]
        exact br_f h0 (br_t g (br_f hz' ⟨v8, nm_e (zo_g3 hk (br_f (by decide) (br_f j0 ⟨v8, br_t gl (zo_g3 hk (br_t rfl (br_t a0 h)))⟩)))⟩))
    obtain ⟨m, hm, rfl⟩ := pk_lOf a0
    by_cases hmc' : ¬ m ≤ c
    · have gm : ¬ lN m ≤ lN c := fun z => hmc' ((pk_lLE hm (by omega)).mp z)
      refine ⟨4, _, _, R, fun q h => hX q ?_, fun q h => ?_⟩
      · unfold wX_put_48
        rw [ec, el, e64]
        exact br_f j0 ⟨v5, br_t gl (zo_r1 hk (br_f (by decide) (br_f a0 (br_f gm h))))⟩
      · unfold wpY_put
        dsimp only
        rw [ec, el, e64]
        exact br_f h0 (br_t g (br_f hz' ⟨v8, nm_e (zo_g3 hk (br_f (by decide) (br_f j0 ⟨v8, br_t gl (zo_g3 hk (br_t rfl (br_f a0 (br_f gm h))))⟩)))⟩))
    have hmc : m ≤ c := by omega
    have gm : lN m ≤ lN c := (pk_lLE hm (by omega)).mpr hmc
    obtain ⟨r, rX, rY⟩ := zo_asg A hmc hk
    by_cases r0 : r = 0
    · refine ⟨2, _, _, R, fun q h => hX q ?_, fun q h => ?_⟩
      · unfold wX_put_48
        rw [ec, el, e64]
        exact br_f j0 ⟨v5, br_t gl (zo_r1 hk (br_f (by decide) (br_f a0 (br_t gm (rX _ _ _ _ _ _ (br_t r0 h))))))⟩
      · unfold wpY_put
        dsimp only
        rw [ec, el, e64]
        exact br_f h0 (br_t g (br_f hz' ⟨v8, nm_e (zo_g3 hk (br_f (by decide) (br_f j0 ⟨v8, br_t gl (zo_g3 hk (br_t rfl (br_f a0 (br_t gm (rY _ _ _ _ _ (br_t r0 h))))))⟩)))⟩))
    · refine zo_st (zo_pw (w := w) (tp := tp) A B hic hpl (fun _ => ⟨m, hmc, rfl⟩)) (fun q h => hX q ?_) (fun q h => ?_)
      · unfold wX_put_48
        rw [ec, el, e64]
        exact br_f j0 ⟨v5, br_t gl (zo_r1 hk (br_f (by decide) (br_f a0 (br_t gm (rX _ _ _ _ _ _ (br_f r0 h))))))⟩
      · unfold wpY_put
        dsimp only
        rw [ec, el, e64]
        exact br_f h0 (br_t g (br_f hz' ⟨v8, nm_e (zo_g3 hk (br_f (by decide) (br_f j0 ⟨v8, br_t gl (zo_g3 hk (br_t rfl (br_f a0 (br_t gm (rY _ _ _ _ _ (br_f r0 h))))))⟩)))⟩))
end
section
/-- both sides load the same cells into the temporary -/
theorem zo_ld {c l b s p : Nat} {f2 f3 x3 x4 x7 x9 x11 x13 : Int32} {ty os ln : Nat → Int32} {cl ro : Nat → Int64} (hb : b + l ≤ 16) (hs : s * 16 + p + l ≤ 80) (hr : ∀ j, j < l → cl (b + j) = ro (s * 16 + p + j)) :
    ∀ e i (tp : Nat → Int64), i + e = l → (∀ j, j < i → tp j = cl (b + j)) → ∃ T : Nat → Int64, (∀ j, j < l → T j = cl (b + j)) ∧
      (∀ q : Int32 → SX → Prop, (∃ n : Nat, wX_copy_248 q (nI l) x7 x11 x13 (nI c) f2 f3 n 0 ty os ln cl T) → wX_copy_215 q (nI l) x7 x11 (nI b) x13 (nI c) f2 f3 (e + 1) (nI i) ty os ln cl tp) ∧
      (∀ q : Int32 → SY → Prop, (∃ n : Nat, wY_copy_202 q x3 x4 (nI l) x7 x9 n 0 (nI c) f3 ty ln ro T) → wY_copy_165 q (nI s) (nI p) x3 x4 (nI l) x7 x9 (nI c) f3 (e + 1) (nI i) ty ln ro tp) := by
  intro e
  induction e with
  | zero =>
    intro i tp hi ht
    have g : nI l ≤ nI i := nI_le (by omega) (by omega)
    refine ⟨tp, fun j hj => ht j (by omega), fun q h => ?_, fun q h => ?_⟩
    · try dsimp only
      rw [wX_copy_215]
      dsimp only
      exact br_t g h
    · try dsimp only
      rw [wY_copy_165]
      dsimp only
      exact br_t g h
  | succ e ih =>
    intro i tp hi ht
    have g : ¬ nI l ≤ nI i := nI_ge (by omega) (by omega)
    have v16 : vp_in (nI i) 16 := vp_in_nI (by omega) (by omega)
    have ei : (nI i).toNatClampNeg = i := nI_clamp (by omega)
    obtain ⟨T, hT, tX, tY⟩ := ih (i + 1) (vp_updL tp i (cl (b + i))) (by omega) (fun j hj => by
      by_cases ej : j = i
      · subst ej
        exact pk_uLs
      · rw [pk_uLn ej]
        exact ht j (by omega))
    refine ⟨T, hT, fun q h => ?_, fun q h => ?_⟩
    · try dsimp only
      rw [wX_copy_215]
      dsimp only
      rw [nI_add, nI_clamp (n := b + i) (by omega), ei]
      exact br_f g ⟨vp_in_nI (by omega) (by omega), v16, nm_e (nm_r (nI_1 i) (tX q h))⟩
    · have eb : nI s * 16 + nI p + nI i = nI (s * 16 + p + i) := by rw [zo_16, nI_add]
      try dsimp only
      rw [wY_copy_165]
      dsimp only
      rw [eb, nI_clamp (n := s * 16 + p + i) (by omega), ei, ← hr i (by omega)]
      exact br_f g ⟨vp_in_nI (by omega) (by omega), v16, nm_e (nm_r (nI_1 i) (tY q h))⟩
/-- both sides store out of the temporary -/
theorem zo_cs {k c l d o : Nat} {L : Nat → Nat} {ty os ln : Nat → Int32} {T : Nat → Int64} {x9 x11 : Int32} (A : zo_A c L ty os ln) (hd : d ≤ c) (hl : o + l ≤ L d)
    (hx : (x11 = 0 ∧ x9 = 2 ∧ ¬ zo_Rf (ty d)) ∨ (x11 = 1 ∧ x9 = 3 ∧ zo_Rf (ty d) ∧ ∀ j, j < l → ∃ m, m ≤ c ∧ T j = lN m)) :
    ∀ e i (cl ro : Nat → Int64), i + e = l → zo_B c L ty cl ro →
      zo_O k (fun q => wX_copy_248 q (nI l) (ty d) x11 (nI (zo_sm L d + o)) (nI c) (nI (zo_sm L (c + 1))) 0 (e + 1) (nI i) ty os ln cl T) (fun q => wY_copy_202 q (nI d) (nI o) (nI l) (ty d) x9 (e + 1) (nI i) (nI c) (nI i) ty ln ro T) := by
  have hc := A.1
  have hlen := zo_len A hd
  intro e
  induction e with
  | zero =>
    intro i cl ro hi B
    have ei : i = l := by omega
    subst ei
    have g : nI i ≤ nI i := nI_le (by omega) (by omega)
    refine ⟨0, _, _, zo_rel (w := nI i) (tp := T) A B, fun q h => ?_, fun q h => ?_⟩
    · try dsimp only
      rw [wX_copy_248]
      dsimp only
      exact br_t g h
    · try dsimp only
      rw [wY_copy_202]
      dsimp only
      exact br_t g h
  | succ e ih =>
    intro i cl ro hi B
    have g : ¬ nI l ≤ nI i := nI_ge (by omega) (by omega)
    have v16 : vp_in (nI i) 16 := vp_in_nI (by omega) (by omega)
    have ei : (nI i).toNatClampNeg = i := nI_clamp (by omega)
    have eX : nI (zo_sm L d + o) + nI i = nI (zo_sm L d + (o + i)) := by rw [nI_add, Nat.add_assoc]
    have eY : nI d * 16 + nI o + nI i = nI (d * 16 + (o + i)) := by rw [zo_16, nI_add, Nat.add_assoc]
    have vX : vp_in (nI (zo_sm L d + (o + i))) 16 := vp_in_nI (by omega) (by omega)
    have vY : vp_in (nI (d * 16 + (o + i))) 80 := vp_in_nI (by omega) (by omega)
    have sX : ∀ (q : Int32 → SX → Prop) (J : Int32 → (Nat → Int32) → (Nat → Int32) → (Nat → Int32) → (Nat → Int64) → (Nat → Int64) → Prop), J (nI (i + 1)) ty os ln (vp_updL cl (zo_sm L d + (o + i)) (T i)) T →
        wX_copy_289 q J (nI l) (ty d) x11 (nI (zo_sm L d + o)) (nI i) (T i) (nI c) (nI (zo_sm L (c + 1))) 0 ty os ln cl T := fun q J h => by
      unfold wX_copy_289
      rw [eX, nI_clamp (n := zo_sm L d + (o + i)) (by omega)]
      exact ⟨vX, nm_e (nm_r (nI_1 i) h)⟩
    have sY : ∀ (q : Int32 → SY → Prop) (J : Int32 → Int32 → Int32 → (Nat → Int32) → (Nat → Int32) → (Nat → Int64) → (Nat → Int64) → Prop), J (nI (i + 1)) (nI c) (nI (i + 1)) ty ln (vp_updL ro (d * 16 + (o + i)) (T i)) T →
        wY_copy_233 q J (nI d) (nI o) (nI l) (ty d) x9 (nI i) (nI c) (nI i) ty ln ro T := fun q J h => by
      unfold wY_copy_233 wpY_store
      dsimp only
      rw [eY, nI_clamp (n := d * 16 + (o + i)) (by omega), ei]
      exact nm_r (nI_1 i) ⟨v16, vY, nm_e (nm_r (nI_1 i) h)⟩
    have N : (zo_Rf (ty d) → ∃ m, m ≤ c ∧ T i = lN m) → zo_O k (fun q => wX_copy_289 q (wX_copy_248 q (nI l) (ty d) x11 (nI (zo_sm L d + o)) (nI c) (nI (zo_sm L (c + 1))) 0 (e + 1)) (nI l) (ty d) x11 (nI (zo_sm L d + o)) (nI i) (T i) (nI c) (nI (zo_sm L (c + 1))) 0 ty os ln cl T)
        (fun q => wY_copy_233 q (wY_copy_202 q (nI d) (nI o) (nI l) (ty d) x9 (e + 1)) (nI d) (nI o) (nI l) (ty d) x9 (nI i) (nI c) (nI i) ty ln ro T) := fun hv =>
      zo_st (ih (i + 1) (vp_updL cl (zo_sm L d + (o + i)) (T i)) (vp_updL ro (d * 16 + (o + i)) (T i)) (by omega) (zo_wr A B hd (by omega) hv)) (fun q h => sX q _ h) (fun q h => sY q _ h)
    rcases hx with ⟨h11, h9, hn⟩ | ⟨h11, h9, hrf, hm⟩
    · refine zo_st (N (fun z => absurd z hn)) (fun q h => ?_) (fun q h => ?_)
      · try dsimp only
        rw [wX_copy_248]
        dsimp only
        rw [ei]
        exact br_f g ⟨v16, nm_e (br_t h11 h)⟩
      · try dsimp only
        rw [wY_copy_202]
        dsimp only
        exact br_f g (br_f (by rw [h9]; decide) h)
    · obtain ⟨m, hmc, em⟩ := hm i (by omega)
      obtain ⟨r, rX, rY⟩ := zo_asg A hmc hrf
      rw [← em] at rX rY
      have n11 : ¬ x11 = 0 := by rw [h11]; decide
      by_cases r0 : r = 0
      · refine ⟨2, _, _, zo_rel (w := nI i) (tp := T) A B, fun q h => ?_, fun q h => ?_⟩
        · try dsimp only
          rw [wX_copy_248]
          dsimp only
          rw [ei]
          refine br_f g ⟨v16, nm_e (br_f n11 ?_)⟩
          exact rX _ _ _ _ _ _ (br_t r0 h)
        · try dsimp only
          rw [wY_copy_202]
          dsimp only
          rw [ei]
          refine br_f g (br_t h9 ⟨v16, ?_⟩)
          exact rY _ _ _ _ _ (br_t r0 h)
      · refine zo_st (N (fun _ => ⟨m, hmc, em⟩)) (fun q h => ?_) (fun q h => ?_)
        · try dsimp only
          rw [wX_copy_248]
          dsimp only
          rw [ei]
          refine br_f g ⟨v16, nm_e (br_f n11 ?_)⟩
          exact rX _ _ _ _ _ _ (br_f r0 h)
        · try dsimp only
          rw [wY_copy_202]
          dsimp only
          rw [ei]
          refine br_f g (br_t h9 ⟨v16, ?_⟩)
          exact rY _ _ _ _ _ (br_f r0 h)
end
section
/-- behind the checks of the types -/
theorem zo_cp {k c s d : Nat} {L : Nat → Nat} {ty os ln : Nat → Int32} {cl ro tp : Nat → Int64} {x9 x11 : Int32} (A : zo_A c L ty os ln) (B : zo_B c L ty cl ro) (hs : s ≤ c) (hd : d ≤ c)
    (hx : (x11 = 0 ∧ x9 = 2 ∧ ¬ zo_Rf (ty d)) ∨ (x11 = 1 ∧ x9 = 3 ∧ zo_Rf (ty d) ∧ zo_Rf (ty s))) (v2 v4 v5 : Int32) :
    zo_O k (fun q => wX_copy_136 q (nI s) v2 (nI d) v4 v5 (ty d) x11 (nI c) (nI (zo_sm L (c + 1))) 0 ty os ln cl tp) (fun q => wY_copy_107 q (nI s) v2 (nI d) v4 v5 (ty d) x9 (nI c) 0 ty ln ro tp) := by
  have R : i_Rel k (nI c, nI (zo_sm L (c + 1)), 0, ty, os, ln, cl, tp) (nI c, 0, ty, ln, ro, tp) := zo_rel A B
  have hc := A.1
  have ls := zo_len A hs
  have ld := zo_len A hd
  by_cases h2 : v2 < 0
  · exact ⟨3, _, _, R, fun q h => br_t h2 h, fun q h => br_t h2 h⟩
  by_cases h4 : v4 < 0
  · exact ⟨3, _, _, R, fun q h => br_f h2 (br_t h4 h), fun q h => br_f h2 (br_t h4 h)⟩
  by_cases h5 : v5 < 0
  · have hn : ¬ 0 ≤ v5 := fun z => absurd h5 (Int32.not_lt.mpr z)
    exact ⟨3, _, _, R, fun q h => br_f h2 (br_f h4 (br_f hn h)), fun q h => br_f h2 (br_f h4 (br_f hn h))⟩
  have hp : 0 ≤ v5 := Int32.not_lt.mp h5
  obtain ⟨p, hp2, rfl⟩ := nI_of h2
  obtain ⟨o, hp4, rfl⟩ := nI_of h4
  obtain ⟨l, hp5, rfl⟩ := nI_of h5
  have es : (nI s).toNatClampNeg = s := nI_clamp (by omega)
  have ed : (nI d).toNatClampNeg = d := nI_clamp (by omega)
  have vs5 : vp_in (nI s) 5 := vp_in_nI (by omega) (by omega)
  have vd5 : vp_in (nI d) 5 := vp_in_nI (by omega) (by omega)
  have vs8 : vp_in (nI s) 8 := vp_in_nI (by omega) (by omega)
  have vd8 : vp_in (nI d) 8 := vp_in_nI (by omega) (by omega)
  have e1 : (nI p).toInt64 + (nI l).toInt64 = lN (p + l) := by rw [zo_l hp2, zo_l hp5, lN_add]
  have e2 : (nI o).toInt64 + (nI l).toInt64 = lN (o + l) := by rw [zo_l hp4, zo_l hp5, lN_add]
  have e3 : (ln s).toInt64 = lN (L s) := by rw [A.2.2.2.1 s, zo_l (by omega)]
  have e4 : (ln d).toInt64 = lN (L d) := by rw [A.2.2.2.1 d, zo_l (by omega)]
  by_cases k1 : p + l ≤ L s
  · have g1 : lN (p + l) ≤ lN (L s) := (pk_lLE (by omega) (by omega)).mpr k1
    by_cases k2 : o + l ≤ L d
    · have g2 : lN (o + l) ≤ lN (L d) := (pk_lLE (by omega) (by omega)).mpr k2
      have e5 : os s + nI p = nI (zo_sm L s + p) := by rw [A.2.2.2.2.1 s hs, nI_add]
      have e6 : os d + nI o = nI (zo_sm L d + o) := by rw [A.2.2.2.2.1 d hd, nI_add]
      obtain ⟨T, hT, tX, tY⟩ := zo_ld (c := c) (l := l) (b := zo_sm L s + p) (s := s) (p := p) (f2 := nI (zo_sm L (c + 1))) (f3 := 0) (x3 := nI d) (x4 := nI o) (x7 := ty d) (x9 := x9) (x11 := x11) (x13 := nI (zo_sm L d + o)) (ty := ty) (os := os) (ln := ln) (cl := cl) (ro := ro)
        (by omega) (by omega) (fun j hj => by
          have := B.1 s hs (p + j) (by omega)
          rw [Nat.add_assoc, Nat.add_assoc]
          exact this) l 0 tp (by omega) (fun j hj => absurd hj (by omega))
      have hx' : (x11 = 0 ∧ x9 = 2 ∧ ¬ zo_Rf (ty d)) ∨ (x11 = 1 ∧ x9 = 3 ∧ zo_Rf (ty d) ∧ ∀ j, j < l → ∃ m, m ≤ c ∧ T j = lN m) := by
        rcases hx with hx | ⟨a1, a2, a3, a4⟩
        · exact Or.inl hx
        · refine Or.inr ⟨a1, a2, a3, fun j hj => ?_⟩
          rw [hT j hj, Nat.add_assoc]
          exact B.2.2.2 s hs a4 (p + j) (by omega)
      refine zo_st (zo_cs A hd k2 hx' l 0 cl ro (by omega) B) (fun q h => ?_) (fun q h => ?_)
      · unfold wX_copy_136
        rw [es, ed, e1, e2, e3, e4, e5, e6]
        exact br_f h2 (br_f h4 (br_t hp ⟨vs5, br_t g1 ⟨vd5, br_t g2 ⟨vs5, nm_e ⟨vd5, nm_e ⟨l + 1, tX q ⟨l + 1, h⟩⟩⟩⟩⟩⟩))
      · unfold wY_copy_107
        rw [es, ed, e1, e2, e3, e4]
        exact br_f h2 (br_f h4 (br_t hp ⟨vs8, br_t g1 ⟨vd8, br_t g2 ⟨l + 1, tY q ⟨l + 1, h⟩⟩⟩⟩))
    · have g2 : ¬ lN (o + l) ≤ lN (L d) := fun z => k2 ((pk_lLE (by omega) (by omega)).mp z)
      refine ⟨3, _, _, R, fun q h => ?_, fun q h => ?_⟩
      · unfold wX_copy_136
        rw [es, ed, e1, e2, e3, e4]
        exact br_f h2 (br_f h4 (br_t hp ⟨vs5, br_t g1 ⟨vd5, br_f g2 h⟩⟩))
      · unfold wY_copy_107
        rw [es, ed, e1, e2, e3, e4]
        exact br_f h2 (br_f h4 (br_t hp ⟨vs8, br_t g1 ⟨vd8, br_f g2 h⟩⟩))
  · have g1 : ¬ lN (p + l) ≤ lN (L s) := fun z => k1 ((pk_lLE (by omega) (by omega)).mp z)
    refine ⟨3, _, _, R, fun q h => ?_, fun q h => ?_⟩
    · unfold wX_copy_136
      rw [es, ed, e1, e3]
      exact br_f h2 (br_f h4 (br_t hp ⟨vs5, br_f g1 h⟩))
    · unfold wY_copy_107
      rw [es, ed, e1, e3]
      exact br_f h2 (br_f h4 (br_t hp ⟨vs8, br_f g1 h⟩))
theorem zo_copy {k c : Nat} {L : Nat → Nat} {w : Int32} {ty os ln : Nat → Int32} {cl ro tp : Nat → Int64} (A : zo_A c L ty os ln) (B : zo_B c L ty cl ro) (v1 v2 v3 v4 v5 : Int32) :
    zo_O k (fun q => wpX_copy q (nI c, nI (zo_sm L (c + 1)), w, ty, os, ln, cl, tp) v1 v2 v3 v4 v5) (fun q => wpY_copy q (nI c, w, ty, ln, ro, tp) v1 v2 v3 v4 v5) := by
  have R : i_Rel k (nI c, nI (zo_sm L (c + 1)), 0, ty, os, ln, cl, tp) (nI c, 0, ty, ln, ro, tp) := zo_rel A B
  have hc := A.1
  by_cases h1 : v1 < 0
  · exact ⟨4, _, _, R, fun q h => br_t h1 h, fun q h => br_t h1 h⟩
  obtain ⟨s, hs1, rfl⟩ := nI_of h1
  by_cases hs' : ¬ s ≤ c
  · have g : nI c < nI s := nI_lt (by omega) hs1
    exact ⟨4, _, _, R, fun q h => br_f h1 (br_t g h), fun q h => br_f h1 (br_t g h)⟩
  have hs : s ≤ c := by omega
  have gs : ¬ nI c < nI s := nI_nlt hs (by omega)
  by_cases h3 : v3 < 0
  · exact ⟨4, _, _, R, fun q h => br_f h1 (br_f gs (br_t h3 h)), fun q h => br_f h1 (br_f gs (br_t h3 h))⟩
  obtain ⟨d, hd1, rfl⟩ := nI_of h3
  by_cases hd' : ¬ d ≤ c
  · have g : ¬ nI d ≤ nI c := nI_ge (by omega) (by omega)
    exact ⟨4, _, _, R, fun q h => br_f h1 (br_f gs (br_f h3 (br_f g h))), fun q h => br_f h1 (br_f gs (br_f h3 (br_f g h)))⟩
  have hd : d ≤ c := by omega
  have gd : nI d ≤ nI c := nI_le hd (by omega)
  by_cases d0 : d = 0
  · subst d0
    exact ⟨1, _, _, R, fun q h => br_f h1 (br_f gs (br_f h3 (br_t gd (br_t rfl h)))), fun q h => br_f h1 (br_f gs (br_f h3 (br_t gd (br_t rfl h))))⟩
  have zd : ¬ nI d = 0 := nI_ne0 (by omega) (by omega)
  by_cases s0 : s = 0
  · subst s0
    exact ⟨1, _, _, R, fun q h => br_f h1 (br_f gs (br_f h3 (br_t gd (br_f zd (br_t rfl h))))), fun q h => br_f h1 (br_f gs (br_f h3 (br_t gd (br_f zd (br_t rfl h)))))⟩
  have zs : ¬ nI s = 0 := nI_ne0 (by omega) (by omega)
  have es : (nI s).toNatClampNeg = s := nI_clamp (by omega)
  have ed : (nI d).toNatClampNeg = d := nI_clamp (by omega)
  have vs5 : vp_in (nI s) 5 := vp_in_nI (by omega) (by omega)
  have vd5 : vp_in (nI d) 5 := vp_in_nI (by omega) (by omega)
  have vs8 : vp_in (nI s) 8 := vp_in_nI (by omega) (by omega)
  have vd8 : vp_in (nI d) 8 := vp_in_nI (by omega) (by omega)
  rcases (A.2.2.2.2.2 s (by omega) hs) with ks | ks | ks
  · refine ⟨2, _, _, R, fun q h => ?_, fun q h => ?_⟩
    · unfold wpX_copy
      dsimp only
      rw [es, ed]
      refine br_f h1 (br_f gs (br_f h3 (br_t gd (br_f zd (br_f zs ⟨vs5, nm_e ⟨vd5, nm_e (zo_p0 (zo_pl_pr ks) (zo_r0 (zo_pl_rf ks) ?_))⟩⟩)))))
      rcases (A.2.2.2.2.2 d (by omega) hd) with kd | kd | kd
      · exact zo_p0 (zo_pl_pr kd) (zo_r0 (zo_pl_rf kd) (br_t rfl (br_t rfl h)))
      · exact zo_p1 kd (zo_r0 (zo_pr_rf kd) (br_t rfl (br_t rfl h)))
      · exact zo_p0 (zo_rf_pr kd) (zo_r1 kd (br_t rfl (br_t rfl h)))
    · unfold wpY_copy
      dsimp only
      rw [es, ed]
      refine br_f h1 (br_f gs (br_f h3 (br_t gd (br_f zd (br_f zs ⟨vs8, nm_e ⟨vd8, nm_e (zo_g1 ks ?_)⟩⟩)))))
      rcases (A.2.2.2.2.2 d (by omega) hd) with kd | kd | kd
      · exact zo_g1 kd (br_t rfl h)
      · exact zo_g2 kd (br_t rfl h)
      · exact zo_g3 kd (br_t rfl h)
  · have hX : ∀ q (r r' : Int32), (∀ q' : Int32 → Prop, q' r → wpX_isPrim q' (nI c, nI (zo_sm L (c + 1)), 0, ty, os, ln, cl, tp) (ty d)) → (∀ q' : Int32 → Prop, q' r' → wpX_isRef q' (nI c, nI (zo_sm L (c + 1)), 0, ty, os, ln, cl, tp) (ty d)) →
        wX_copy_101 q (nI s) v2 (nI d) v4 v5 (ty s) (ty d) 1 r r' (nI c) (nI (zo_sm L (c + 1))) 0 ty os ln cl tp → wpX_copy q (nI c, nI (zo_sm L (c + 1)), w, ty, os, ln, cl, tp) (nI s) v2 (nI d) v4 v5 := fun q r r' a b h => by
      unfold wpX_copy
      dsimp only
      rw [es, ed]
      exact br_f h1 (br_f gs (br_f h3 (br_t gd (br_f zd (br_f zs ⟨vs5, nm_e ⟨vd5, nm_e (zo_p1 ks (zo_r0 (zo_pr_rf ks) (a _ (b _ (br_f (by decide) h)))))⟩⟩)))))
    rcases (A.2.2.2.2.2 d (by omega) hd) with kd | kd | kd
    · refine ⟨2, _, _, R, fun q h => hX q 0 0 (fun _ => zo_p0 (zo_pl_pr kd)) (fun _ => zo_r0 (zo_pl_rf kd)) ?_, fun q h => ?_⟩
      · unfold wX_copy_101
        exact br_t rfl (br_t rfl h)
      · unfold wpY_copy
        dsimp only
        rw [es, ed]
        exact br_f h1 (br_f gs (br_f h3 (br_t gd (br_f zd (br_f zs ⟨vs8, nm_e ⟨vd8, nm_e (zo_g2 ks (zo_g1 kd (br_f (by decide) (br_t rfl h))))⟩⟩)))))
    · by_cases e : ty s = ty d
      · refine zo_st (zo_cp (tp := tp) (x11 := 0) (x9 := 2) A B hs hd (Or.inl ⟨rfl, rfl, zo_pr_rf kd⟩) v2 v4 v5) (fun q h => hX q 1 0 (fun _ => zo_p1 kd) (fun _ => zo_r0 (zo_pr_rf kd)) ?_) (fun q h => ?_)
        · unfold wX_copy_101 wX_copy_113
          exact br_f (by decide) (br_t rfl (br_f (by decide) (br_t e h)))
        · unfold wpY_copy
          dsimp only
          rw [es, ed]
          exact br_f h1 (br_f gs (br_f h3 (br_t gd (br_f zd (br_f zs ⟨vs8, nm_e ⟨vd8, nm_e (zo_g2 ks (zo_g2 kd (br_f (by decide) (br_f (by decide) (br_t rfl (br_t rfl (br_t e h)))))))⟩⟩)))))
      · refine ⟨2, _, _, R, fun q h => hX q 1 0 (fun _ => zo_p1 kd) (fun _ => zo_r0 (zo_pr_rf kd)) ?_, fun q h => ?_⟩
        · unfold wX_copy_101 wX_copy_113
          exact br_f (by decide) (br_t rfl (br_f (by decide) (br_f e h)))
        · unfold wpY_copy
          dsimp only
          rw [es, ed]
          exact br_f h1 (br_f gs (br_f h3 (br_t gd (br_f zd (br_f zs ⟨vs8, nm_e ⟨vd8, nm_e (zo_g2 ks (zo_g2 kd (br_f (by decide) (br_f (by decide) (br_t rfl (br_t rfl (br_f e h)))))))⟩⟩)))))
    · refine ⟨2, _, _, R, fun q h => hX q 0 1 (fun _ => zo_p0 (zo_rf_pr kd)) (fun _ => zo_r1 kd) ?_, fun q h => ?_⟩
      · unfold wX_copy_101 wX_copy_113
        exact br_t rfl (br_f (by decide) (br_f (by decide) h))
      · unfold wpY_copy
        dsimp only
        rw [es, ed]
        exact br_f h1 (br_f gs (br_f h3 (br_t gd (br_f zd (br_f zs ⟨vs8, nm_e ⟨vd8, nm_e (zo_g2 ks (zo_g3 kd (br_f (by decide) (br_f (by decide) (br_f (by decide) h)))))⟩⟩)))))
  · have hX : ∀ q (r r' : Int32), (∀ q' : Int32 → Prop, q' r → wpX_isPrim q' (nI c, nI (zo_sm L (c + 1)), 0, ty, os, ln, cl, tp) (ty d)) → (∀ q' : Int32 → Prop, q' r' → wpX_isRef q' (nI c, nI (zo_sm L (c + 1)), 0, ty, os, ln, cl, tp) (ty d)) →
        wX_copy_101 q (nI s) v2 (nI d) v4 v5 (ty s) (ty d) 0 r r' (nI c) (nI (zo_sm L (c + 1))) 0 ty os ln cl tp → wpX_copy q (nI c, nI (zo_sm L (c + 1)), w, ty, os, ln, cl, tp) (nI s) v2 (nI d) v4 v5 := fun q r r' a b h => by
      unfold wpX_copy
      dsimp only
      rw [es, ed]
      exact br_f h1 (br_f gs (br_f h3 (br_t gd (br_f zd (br_f zs ⟨vs5, nm_e ⟨vd5, nm_e (zo_p0 (zo_rf_pr ks) (zo_r1 ks (a _ (b _ (br_t rfl (br_f (by decide) h))))))⟩⟩)))))
    rcases (A.2.2.2.2.2 d (by omega) hd) with kd | kd | kd
    · refine ⟨2, _, _, R, fun q h => hX q 0 0 (fun _ => zo_p0 (zo_pl_pr kd)) (fun _ => zo_r0 (zo_pl_rf kd)) ?_, fun q h => ?_⟩
      · unfold wX_copy_101
        exact br_t rfl (br_t rfl h)
      · unfold wpY_copy
        dsimp only
        rw [es, ed]
        exact br_f h1 (br_f gs (br_f h3 (br_t gd (br_f zd (br_f zs ⟨vs8, nm_e ⟨vd8, nm_e (zo_g3 ks (zo_g1 kd (br_f (by decide) (br_t rfl h))))⟩⟩)))))
    · refine ⟨2, _, _, R, fun q h => hX q 1 0 (fun _ => zo_p1 kd) (fun _ => zo_r0 (zo_pr_rf kd)) ?_, fun q h => ?_⟩
      · unfold wX_copy_101 wX_copy_113
        exact br_f (by decide) (br_f (by decide) h)
      · unfold wpY_copy
        dsimp only
        rw [es, ed]
        exact br_f h1 (br_f gs (br_f h3 (br_t gd (br_f zd (br_f zs ⟨vs8, nm_e ⟨vd8, nm_e (zo_g3 ks (zo_g2 kd (br_f (by decide) (br_f (by decide) (br_f (by decide) h)))))⟩⟩)))))
    · refine zo_st (zo_cp (tp := tp) (x11 := 1) (x9 := 3) A B hs hd (Or.inr ⟨rfl, rfl, kd, ks⟩) v2 v4 v5) (fun q h => hX q 0 1 (fun _ => zo_p0 (zo_rf_pr kd)) (fun _ => zo_r1 kd) ?_) (fun q h => ?_)
      · unfold wX_copy_101 wX_copy_113
        exact br_t rfl (br_f (by decide) (br_t rfl (br_t rfl h)))
      · unfold wpY_copy
        dsimp only
        rw [es, ed]
        exact br_f h1 (br_f gs (br_f h3 (br_t gd (br_f zd (br_f zs ⟨vs8, nm_e ⟨vd8, nm_e (zo_g3 ks (zo_g3 kd (br_f (by decide) (br_f (by decide) (br_t rfl (br_f (by decide) h))))))⟩⟩)))))
end
section
theorem i_up {k : Nat} {u : SX} {v : SY} (h : i_Rel k u v) : i_Rel (k + 6) u v := h
theorem i_vc0 : wpX_init (fun u => wpY_init (fun v => i_Rel 0 u v)) := by
  have A : zo_A 0 (fun _ => 0) (fun _ => 0) (fun _ => 0) (fun _ => 0) :=
    ⟨by decide, rfl, by decide, fun _ => rfl, fun i hi => by
      have e : i = 0 := by omega
      subst e
      rfl, fun i h1 hi => absurd h1 (by omega)⟩
  have B : zo_B 0 (fun _ => 0) (fun _ => 0) (fun _ => 0) (fun _ => 0) :=
    ⟨fun _ _ _ _ => rfl, fun _ _ => rfl, fun _ _ => rfl, fun _ _ _ p hp => absurd hp (Nat.not_lt_zero p)⟩
  exact zo_rel (k := 0) (w := 0) (tp := fun _ => 0) A B
theorem i_vc_alloc {k : Nat} {u : SX} {v : SY} (I : i_Rel k u v) (hk : k + 6 ≤ 3072) (v1 : Int32) (v2 : Int32) : wpX_alloc (fun r u' => wpY_alloc (fun r' v' => r' = r ∧ i_Rel (k + 6) u' v') v v1 v2) u v1 v2 := by
  obtain ⟨c, L, w, ty, os, ln, cl, ro, tp, A, B, rfl, rfl⟩ := I
  have h := zo_J (k := k + 6) (zo_alloc (w := w) (tp := tp) A B v1 v2)
  exact h
theorem i_vc_put {k : Nat} {u : SX} {v : SY} (I : i_Rel k u v) (hk : k + 6 ≤ 3072) (v1 : Int32) (v2 : Int32) (a2 : Int64) : wpX_put (fun r u' => wpY_put (fun r' v' => r' = r ∧ i_Rel (k + 6) u' v') v v1 v2 a2) u v1 v2 a2 := by
  obtain ⟨c, L, w, ty, os, ln, cl, ro, tp, A, B, rfl, rfl⟩ := I
  have h := zo_J (k := k + 6) (zo_put (w := w) (tp := tp) A B v1 v2 a2)
  exact h
theorem i_vc_copy {k : Nat} {u : SX} {v : SY} (I : i_Rel k u v) (hk : k + 6 ≤ 3072) (v1 : Int32) (v2 : Int32) (v3 : Int32) (v4 : Int32) (v5 : Int32) : wpX_copy (fun r u' => wpY_copy (fun r' v' => r' = r ∧ i_Rel (k + 6) u' v') v v1 v2 v3 v4 v5) u v1 v2 v3 v4 v5 := by
  obtain ⟨c, L, w, ty, os, ln, cl, ro, tp, A, B, rfl, rfl⟩ := I
  have h := zo_J (k := k + 6) (zo_copy (w := w) (tp := tp) A B v1 v2 v3 v4 v5)
  exact h
theorem i_vc_cell {k : Nat} {u : SX} {v : SY} (I : i_Rel k u v) (hk : k + 6 ≤ 3072) (v1 : Int32) (v2 : Int32) : wpX_cell (fun r => wpY_cell (fun r' => r' = r ∧ i_Rel (k + 6) u v) v v1 v2) u v1 v2 := by
  obtain ⟨c, L, w, ty, os, ln, cl, ro, tp, A, B, rfl, rfl⟩ := I
  have R : i_Rel (k + 6) (nI c, nI (zo_sm L (c + 1)), w, ty, os, ln, cl, tp) (nI c, w, ty, ln, ro, tp) := zo_rel A B
  have hc := A.1
  by_cases h1 : v1 < 1
  · exact br_t h1 (br_t h1 ⟨rfl, R⟩)
  obtain ⟨i, i1, hi, rfl⟩ := zo_pos h1
  by_cases hic' : ¬ i ≤ c
  · exact br_f h1 (br_f (nI_ge (by omega) (by omega)) (br_f h1 (br_t (nI_lt (by omega) (by omega)) ⟨rfl, R⟩)))
  have hic : i ≤ c := by omega
  have gX : nI i ≤ nI c := nI_le hic (by omega)
  have gY : ¬ nI c < nI i := nI_nlt hic (by omega)
  by_cases h2 : v2 < 0
  · exact br_f h1 (br_t gX (br_t h2 (br_f h1 (br_f gY (br_t h2 ⟨rfl, R⟩)))))
  obtain ⟨p, hp, rfl⟩ := nI_of h2
  have hlen := zo_len A hic
  have v5 : vp_in (nI i) 5 := vp_in_nI (by omega) (by omega)
  have v8 : vp_in (nI i) 8 := vp_in_nI (by omega) (by omega)
  have ec : (nI i).toNatClampNeg = i := nI_clamp hi
  have el : ln i = nI (L i) := A.2.2.2.1 i
  have e5 : os i + nI p = nI (zo_sm L i + p) := by rw [A.2.2.2.2.1 i hic, nI_add]
  unfold wpX_cell wpY_cell
  dsimp only
  rw [ec, el, e5, zo_16]
  by_cases hpl : p < L i
  · have gl : nI p < nI (L i) := nI_lt hpl (by omega)
    rw [nI_clamp (n := zo_sm L i + p) (by omega), nI_clamp (n := i * 16 + p) (by omega)]
    exact br_f h1 (br_t gX (br_f h2 ⟨v5, br_t gl ⟨v5, vp_in_nI (by omega) (by omega), br_f h1 (br_f gY (br_f h2 ⟨v8, br_t gl ⟨vp_in_nI (by omega) (by omega), (B.1 i hic p hpl).symm, R⟩⟩))⟩⟩))
  · have gl : ¬ nI p < nI (L i) := nI_nlt (by omega) hp
    exact br_f h1 (br_t gX (br_f h2 ⟨v5, br_f gl (br_f h1 (br_f gY (br_f h2 ⟨v8, br_f gl ⟨rfl, R⟩⟩)))⟩))
theorem i_vc_length {k : Nat} {u : SX} {v : SY} (I : i_Rel k u v) (hk : k + 6 ≤ 3072) (v1 : Int32) : wpX_length (fun r => wpY_length (fun r' => r' = r ∧ i_Rel (k + 6) u v) v v1) u v1 := by
  obtain ⟨c, L, w, ty, os, ln, cl, ro, tp, A, B, rfl, rfl⟩ := I
  have R : i_Rel (k + 6) (nI c, nI (zo_sm L (c + 1)), w, ty, os, ln, cl, tp) (nI c, w, ty, ln, ro, tp) := zo_rel A B
  have hc := A.1
  by_cases h1 : v1 < 1
  · exact br_t h1 (br_t h1 ⟨rfl, R⟩)
  obtain ⟨i, i1, hi, rfl⟩ := zo_pos h1
  by_cases hic' : ¬ i ≤ c
  · exact br_f h1 (br_f (nI_ge (by omega) (by omega)) (br_f h1 (br_t (nI_lt (by omega) (by omega)) ⟨rfl, R⟩)))
  have hic : i ≤ c := by omega
  have gX : nI i ≤ nI c := nI_le hic (by omega)
  have gY : ¬ nI c < nI i := nI_nlt hic (by omega)
  have v5 : vp_in (nI i) 5 := vp_in_nI (by omega) (by omega)
  have v8 : vp_in (nI i) 8 := vp_in_nI (by omega) (by omega)
  have ec : (nI i).toNatClampNeg = i := nI_clamp hi
  unfold wpX_length wpY_length
  dsimp only
  rw [ec]
  rcases (A.2.2.2.2.2 i i1 hic) with hk | hk | hk
  · exact br_f h1 (br_t gX ⟨v5, nm_e (zo_na (zo_pl_pr hk) (zo_pl_rf hk) (br_f h1 (br_f gY ⟨v8, zo_g1 hk (br_t rfl ⟨rfl, R⟩)⟩)))⟩)
  · exact br_f h1 (br_t gX ⟨v5, nm_e (zo_ar (Or.inl hk) ⟨v5, br_f h1 (br_f gY ⟨v8, zo_g2 hk (br_f (by decide) ⟨v8, rfl, R⟩)⟩)⟩)⟩)
  · exact br_f h1 (br_t gX ⟨v5, nm_e (zo_ar (Or.inr hk) ⟨v5, br_f h1 (br_f gY ⟨v8, zo_g3 hk (br_f (by decide) ⟨v8, rfl, R⟩)⟩)⟩)⟩)
theorem i_vc_written {k : Nat} {u : SX} {v : SY} (I : i_Rel k u v) (hk : k + 6 ≤ 3072) : wpX_written (fun r => wpY_written (fun r' => r' = r ∧ i_Rel (k + 6) u v) v) u := by
  obtain ⟨c, L, w, ty, os, ln, cl, ro, tp, A, B, rfl, rfl⟩ := I
  exact ⟨rfl, zo_rel A B⟩
end
