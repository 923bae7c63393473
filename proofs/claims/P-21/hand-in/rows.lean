section
/-! rows pasted from kit/rows (PURE-ROWS, BITS), what is needed here -/
theorem pk_us {f : Nat → Int32} {k : Nat} {x : Int32} : upd f k x k = x := if_pos rfl
theorem pk_un {f : Nat → Int32} {k j : Nat} {x : Int32} (h : j ≠ k) : upd f k x j = f j := if_neg h
theorem pk_uLs {f : Nat → Int64} {k : Nat} {x : Int64} : vp_updL f k x k = x := if_pos rfl
theorem pk_uLn {f : Nat → Int64} {k j : Nat} {x : Int64} (h : j ≠ k) : vp_updL f k x j = f j := if_neg h
theorem pk_ix (x : Int32) {n : Nat} (hn : n < 2 ^ 31) : x < 0 ∨ nI n ≤ x ∨ ∃ j : Nat, j < n ∧ x = nI j := by
  by_cases h : x < 0
  · exact Or.inl h
  · obtain ⟨j, hj, rfl⟩ := nI_of h
    by_cases h2 : j < n
    · exact Or.inr (Or.inr ⟨j, h2, rfl⟩)
    · exact Or.inr (Or.inl (nI_le (by omega) hj))
theorem pk_tn {n : Nat} (h : n < 2 ^ 32) : (nI n).toBitVec.toNat = n := Nat.mod_eq_of_lt h
theorem pk_charN {q : Nat} (hq : q < 65536) : narrow .char (.int (nI q)) = .int (nI q) ∧ fits .char (.int (nI q)) = true := by
  constructor
  · have e : (nI q).toUInt32.toUInt16.toUInt32.toInt32 = nI q := by
      apply Int32.toBitVec_inj.mp
      apply BitVec.eq_of_toNat_eq
      show (nI q).toUInt32.toUInt16.toUInt32.toNat = q % 2 ^ 32
      rw [UInt16.toNat_toUInt32, UInt32.toNat_toUInt16, show (nI q).toUInt32.toNat = q % 2 ^ 32 from rfl]
      omega
    exact congrArg Value.int e
  · have a : (0 : Int32) ≤ nI q := nI_pos' (by omega)
    have b : nI q ≤ 65535 := nI_le (b := 65535) (by omega) (by decide)
    show (decide ((0 : Int32) ≤ nI q) && decide (nI q ≤ 65535)) = true
    rw [decide_eq_true a, decide_eq_true b]
    rfl
theorem pk_char (x : Int32) : (x.toUInt32 % 65536).toInt32 = nI (x.toBitVec.toNat % 65536) := by
  apply Int32.toBitVec_inj.mp
  apply BitVec.eq_of_toNat_eq
  rw [pk_tn (by omega)]
  show (x.toUInt32 % 65536).toNat = _
  rw [UInt32.toNat_mod]
  rfl
theorem pk_nc (x : Int32) : narrow .char (.int (x.toUInt32 % 65536).toInt32) = .int (x.toUInt32 % 65536).toInt32 := by
  rw [pk_char]
  exact (pk_charN (Nat.mod_lt _ (by decide))).1
theorem pk_vb (z : Int32) : vp_nar .byte z.toInt8.toInt32 = z.toInt8.toInt32 := by rw [vp_nar_byte]; simp
theorem pk_vs (z : Int32) : vp_nar .short z.toInt16.toInt32 = z.toInt16.toInt32 := by rw [vp_nar_short]; simp
theorem pk_vc (z : Int32) : vp_nar .char (z.toUInt32 % 65536).toInt32 = (z.toUInt32 % 65536).toInt32 := Value.int.inj (pk_nc z)
def bt (x : Int32) (i : Nat) : Bool := x.toBitVec.getLsbD i
theorem b_ext {x y : Int32} (h : ∀ i, i < 32 → bt x i = bt y i) : x = y := Int32.toBitVec_inj.mp (BitVec.eq_of_getLsbD_eq (fun i hi => h i hi))
theorem b_or (x y : Int32) (i : Nat) : bt (x ||| y) i = (bt x i || bt y i) := by unfold bt; rw [Int32.toBitVec_or, BitVec.getLsbD_or]
theorem b_and (x y : Int32) (i : Nat) : bt (x &&& y) i = (bt x i && bt y i) := by unfold bt; rw [Int32.toBitVec_and, BitVec.getLsbD_and]
theorem b_big {x : Int32} {i : Nat} (h : 32 ≤ i) : bt x i = false := BitVec.getLsbD_of_ge _ _ h
theorem b_0 (i : Nat) : bt 0 i = false := BitVec.getLsbD_zero
theorem s_l : ∀ n, n < 32 → ((nI n &&& 31).toBitVec.smod 32).toNat = n := by decide +kernel
theorem b_shl (n : Nat) (hn : n < 32) (x : Int32) {i : Nat} (hi : i < 32) : bt (x <<< (nI n &&& 31)) i = (decide (n ≤ i) && bt x (i - n)) := by
  unfold bt
  rw [Int32.toBitVec_shiftLeft]
  show (x.toBitVec <<< ((nI n &&& 31).toBitVec.smod 32).toNat).getLsbD i = _
  rw [s_l n hn, BitVec.getLsbD_shiftLeft]
  rcases Nat.lt_or_ge i n with h | h
  · simp [h, Nat.not_le.mpr h]
  · simp [hi, h, Nat.not_lt.mpr h]
theorem b_sshr (n : Nat) (hn : n < 32) (x : Int32) {i : Nat} (hi : i < 32) : bt (x >>> (nI n &&& 31)) i = if n + i < 32 then bt x (n + i) else bt x 31 := by
  unfold bt
  rw [Int32.toBitVec_shiftRight]
  show (x.toBitVec.sshiftRight ((nI n &&& 31).toBitVec.smod 32).toNat).getLsbD i = _
  rw [s_l n hn, BitVec.getLsbD_sshiftRight, BitVec.msb_eq_getLsbD_last]
  simp [hi]
/-! my own rows: a branch met by a value with the same condition -/
theorem mt_br {c A B : Prop} {α : Type} [Decidable c] {P : α → Prop} {a b : α} (H : P (if c then a else b)) (f : P a → A) (g : P b → B) : (c → A) ∧ (¬ c → B) :=
  ⟨fun h => f (by rw [if_pos h] at H; exact H), fun h => g (by rw [if_neg h] at H; exact H)⟩
theorem mt_bd {c A B : Prop} {α : Type} [Decidable c] {P : α → Prop} {a b : α} (H : P (cond (decide c) a b)) (f : P a → A) (g : P b → B) : (c → A) ∧ (¬ c → B) :=
  ⟨fun h => f (by rw [decide_eq_true h] at H; exact H), fun h => g (by rw [decide_eq_false h] at H; exact H)⟩
def mt_K (J : Int32 → Int32 → Prop) (k v : Int32) : Prop := J v k
end
section
/-! X's constructor: the two tables as pure functions, in the walk's own order of questions -/
def mt_nb (e : Int32) : Int32 := e.toInt8.toInt32
def mt_e534 (x e : Int32) : Int32 := if x = 178 then e ||| 4 else if x = 179 then e ||| 4 else if x = 184 then e ||| 4 else if x = 187 then e ||| 4 else e
def mt_e504 (x : Int32) : Int32 := if x = 132 then 1 else if x = 179 then 1 else if x = 181 then 1 else 2
def mt_e465 (x : Int32) : Int32 := if x = 192 then 0 else if x = 193 then 0 else if x = 197 then 0 else if x < 54 then mt_e504 x else if x ≤ 86 then 1 else mt_e504 x
def mt_e437 (x : Int32) : Int32 := if x = 178 then 0 else if x = 180 then 0 else if x < 187 then mt_e465 x else if x ≤ 190 then 0 else mt_e465 x
def mt_e423 (x : Int32) : Int32 := if x < 133 then mt_e437 x else if x ≤ 152 then 0 else mt_e437 x
def mt_e410 (x : Int32) : Int32 := if x < 96 then mt_e423 x else if x ≤ 131 then 0 else mt_e423 x
def mt_e393 (x : Int32) : Int32 := if x < 0 then mt_e410 x else if x ≤ 53 then 0 else mt_e410 x
def mt_ef (x : Int32) : Int32 := mt_nb (mt_e534 x (mt_e393 x))
def mt_o171 (x1 x x3 : Int32) : Int32 := if x = 178 then x1 ||| 512 else if x = 179 then x1 ||| 512 else if x = 180 then (1 ||| x1) ||| 512 else if x = 181 then (1 ||| x1) ||| 512 else if x = 182 then (((1 ||| x1) ||| 1024) ||| 4096) ||| 16384 else if x = 183 then (((1 ||| x1) ||| 1024) ||| 4096) ||| 16384 else if x = 185 then (((1 ||| x1) ||| 1024) ||| 4096) ||| 16384 else if x = 184 then (x1 ||| 1024) ||| 16384 else if x = 187 then x1 ||| 8192 else if x = 188 then 16 else if x = 189 then 16 ||| x1 else if x = 197 then 16 ||| x1 else if x = 190 then 1 else if x = 194 then 1 else if x = 191 then 65 else if x = 195 then 65 else if x = 192 then 32 ||| x1 else if x = 193 then x1 else x3
def mt_o122 (x1 x x3 : Int32) : Int32 := if x = 108 then 2 else if x = 109 then 2 else if x = 112 then 2 else if x = 113 then 2 else if x < 172 then mt_o171 x1 x x3 else if 177 < x then mt_o171 x1 x x3 else 64
def mt_o93 (x1 x x3 : Int32) : Int32 := if x = 83 then 13 else if x < 79 then mt_o122 x1 x x3 else if 86 < x then mt_o122 x1 x x3 else 5
def mt_o36 (x1 x : Int32) : Int32 := if x = 18 then 130944 else if x = 19 then 130944 else if x = 20 then 130944 else if x = 186 then 130944 else if x < 46 then mt_o93 x1 x 0 else if 53 < x then mt_o93 x1 x 0 else 5
def mt_ow (x : Int32) : Int32 := mt_o36 2432 x
def mt_P (J : Int32 → (Nat → Int32) → (Nat → Int32) → (Nat → Int64) → Prop) (x : Int32) (ao ae : Nat → Int32) (tl : Nat → Int64) (e : Int32) : Prop := J (x + 1) ao (upd ae x.toNatClampNeg (mt_nb e)) tl
def mt_R (J : Int32 → (Nat → Int32) → (Nat → Int32) → (Nat → Int64) → Prop) (x : Int32) (ao ae : Nat → Int32) (tl : Nat → Int64) (e : Int32) : Prop := mt_P J x ao ae tl (mt_e534 x e)
def mt_Q (J : Int32 → (Nat → Int32) → (Nat → Int32) → (Nat → Int64) → Prop) (x : Int32) (ao ae : Nat → Int32) (tl : Nat → Int64) (m : Int32) : Prop := mt_R J x (upd ao x.toNatClampNeg m) ae tl (mt_e393 x)
section
variable {post : SX → Prop} {J : Int32 → (Nat → Int32) → (Nat → Int32) → (Nat → Int64) → Prop} {x1 x e m fn : Int32} {ao ae : Nat → Int32} {tl : Nat → Int64}
theorem mt_w568 (hx : vp_in x 202) (h : mt_P J x ao ae tl e) : wX_init_568 post J x1 x e fn ao ae tl := by
  unfold wX_init_568
  rw [pk_vb]
  exact ⟨hx, nm_e (nm_e h)⟩
theorem mt_w562 (hx : vp_in x 202) (h : mt_P J x ao ae tl (e ||| 4)) : wX_init_562 post J x1 x e fn ao ae tl := by
  unfold wX_init_562
  exact nm_e (mt_w568 hx h)
theorem mt_w534 (hx : vp_in x 202) (h : mt_R J x ao ae tl e) : wX_init_534 post J x1 x e fn ao ae tl := by
  unfold mt_R mt_e534 at h
  unfold wX_init_534
  exact mt_br h (fun h => mt_w562 hx h) (fun h => mt_br h (fun h => mt_w562 hx h) (fun h => mt_br h (fun h => mt_w562 hx h) (fun h => mt_br h (fun h => mt_w562 hx h) (fun h => mt_w568 hx h))))
theorem mt_w486 (hx : vp_in x 202) (h : mt_R J x ao ae tl 0) : wX_init_486 post J x1 x fn ao ae tl := by
  unfold wX_init_486
  exact mt_w534 hx h
theorem mt_w525 (hx : vp_in x 202) (h : mt_R J x ao ae tl 1) : wX_init_525 post J x1 x fn ao ae tl := by
  unfold wX_init_525
  exact mt_w534 hx h
theorem mt_w504 (hx : vp_in x 202) (h : mt_R J x ao ae tl (mt_e504 x)) : wX_init_504 post J x1 x fn ao ae tl := by
  unfold mt_e504 at h
  unfold wX_init_504
  exact mt_br h (fun h => mt_w525 hx h) (fun h => mt_br h (fun h => mt_w525 hx h) (fun h => mt_br h (fun h => mt_w525 hx h) (fun h => mt_w534 hx h)))
theorem mt_w465 (hx : vp_in x 202) (h : mt_R J x ao ae tl (mt_e465 x)) : wX_init_465 post J x1 x fn ao ae tl := by
  unfold mt_e465 at h
  unfold wX_init_465
  exact mt_br h (fun h => mt_w486 hx h) (fun h => mt_br h (fun h => mt_w486 hx h) (fun h => mt_br h (fun h => mt_w486 hx h) (fun h => mt_br h (fun h => mt_w504 hx h) (fun h => mt_br h (fun h => mt_w525 hx h) (fun h => mt_w504 hx h)))))
theorem mt_w437 (hx : vp_in x 202) (h : mt_R J x ao ae tl (mt_e437 x)) : wX_init_437 post J x1 x fn ao ae tl := by
  unfold mt_e437 at h
  unfold wX_init_437
  exact mt_br h (fun h => mt_w486 hx h) (fun h => mt_br h (fun h => mt_w486 hx h) (fun h => mt_br h (fun h => mt_w465 hx h) (fun h => mt_br h (fun h => mt_w486 hx h) (fun h => mt_w465 hx h))))
theorem mt_w423 (hx : vp_in x 202) (h : mt_R J x ao ae tl (mt_e423 x)) : wX_init_423 post J x1 x fn ao ae tl := by
  unfold mt_e423 at h
  unfold wX_init_423
  exact mt_br h (fun h => mt_w437 hx h) (fun h => mt_br h (fun h => mt_w486 hx h) (fun h => mt_w437 hx h))
theorem mt_w410 (hx : vp_in x 202) (h : mt_R J x ao ae tl (mt_e410 x)) : wX_init_410 post J x1 x fn ao ae tl := by
  unfold mt_e410 at h
  unfold wX_init_410
  exact mt_br h (fun h => mt_w423 hx h) (fun h => mt_br h (fun h => mt_w486 hx h) (fun h => mt_w423 hx h))
theorem mt_w393 (hx : vp_in x 202) (h : mt_Q J x ao ae tl m) : wX_init_393 post J x1 x m fn ao ae tl := by
  unfold mt_Q mt_e393 at h
  unfold wX_init_393
  exact ⟨hx, nm_e (mt_br h (fun h => mt_w410 hx h) (fun h => mt_br h (fun h => mt_w486 hx h) (fun h => mt_w410 hx h)))⟩
theorem mt_w70 (hx : vp_in x 202) (h : mt_Q J x ao ae tl 130944) : wX_init_70 post J x1 x fn ao ae tl := by
  unfold wX_init_70
  exact mt_w393 hx h
theorem mt_w146 (hx : vp_in x 202) (h : mt_Q J x ao ae tl 2) : wX_init_146 post J x1 x fn ao ae tl := by
  unfold wX_init_146
  exact mt_w393 hx h
theorem mt_w185 (hx : vp_in x 202) (h : mt_Q J x ao ae tl (x1 ||| 512)) : wX_init_185 post J x1 x fn ao ae tl := by
  unfold wX_init_185
  exact nm_e (mt_w393 hx h)
theorem mt_w208 (hx : vp_in x 202) (h : mt_Q J x ao ae tl ((1 ||| x1) ||| 512)) : wX_init_208 post J x1 x fn ao ae tl := by
  unfold wX_init_208
  exact nm_e (mt_w393 hx h)
theorem mt_w240 (hx : vp_in x 202) (h : mt_Q J x ao ae tl ((((1 ||| x1) ||| 1024) ||| 4096) ||| 16384)) : wX_init_240 post J x1 x fn ao ae tl := by
  unfold wX_init_240
  exact nm_e (mt_w393 hx h)
theorem mt_w322 (hx : vp_in x 202) (h : mt_Q J x ao ae tl (16 ||| x1)) : wX_init_322 post J x1 x fn ao ae tl := by
  unfold wX_init_322
  exact nm_e (mt_w393 hx h)
theorem mt_w344 (hx : vp_in x 202) (h : mt_Q J x ao ae tl 1) : wX_init_344 post J x1 x fn ao ae tl := by
  unfold wX_init_344
  exact mt_w393 hx h
theorem mt_w363 (hx : vp_in x 202) (h : mt_Q J x ao ae tl 65) : wX_init_363 post J x1 x fn ao ae tl := by
  unfold wX_init_363
  exact mt_w393 hx h
theorem mt_w171 (hx : vp_in x 202) (h : mt_Q J x ao ae tl (mt_o171 x1 x m)) : wX_init_171 post J x1 x m fn ao ae tl := by
  unfold mt_o171 at h
  unfold wX_init_171
  exact mt_br h (fun h => mt_w185 hx h) (fun h => mt_br h (fun h => mt_w185 hx h) (fun h => mt_br h (fun h => mt_w208 hx h) (fun h => mt_br h (fun h => mt_w208 hx h) (fun h => mt_br h (fun h => mt_w240 hx h) (fun h => mt_br h (fun h => mt_w240 hx h) (fun h => mt_br h (fun h => mt_w240 hx h) (fun h => mt_br h (fun h => nm_e (mt_w393 hx h)) (fun h => mt_br h (fun h => nm_e (mt_w393 hx h)) (fun h => mt_br h (fun h => mt_w393 hx h) (fun h => mt_br h (fun h => mt_w322 hx h) (fun h => mt_br h (fun h => mt_w322 hx h) (fun h => mt_br h (fun h => mt_w344 hx h) (fun h => mt_br h (fun h => mt_w344 hx h) (fun h => mt_br h (fun h => mt_w363 hx h) (fun h => mt_br h (fun h => mt_w363 hx h) (fun h => mt_br h (fun h => nm_e (mt_w393 hx h)) (fun h => mt_br h (fun h => mt_w393 hx h) (fun h => mt_w393 hx h))))))))))))))))))
theorem mt_w122 (hx : vp_in x 202) (h : mt_Q J x ao ae tl (mt_o122 x1 x m)) : wX_init_122 post J x1 x m fn ao ae tl := by
  unfold mt_o122 at h
  unfold wX_init_122
  exact mt_br h (fun h => mt_w146 hx h) (fun h => mt_br h (fun h => mt_w146 hx h) (fun h => mt_br h (fun h => mt_w146 hx h) (fun h => mt_br h (fun h => mt_w146 hx h) (fun h => mt_br h (fun h => mt_w171 hx h) (fun h => mt_br h (fun h => mt_w171 hx h) (fun h => mt_w393 hx h))))))
theorem mt_w93 (hx : vp_in x 202) (h : mt_Q J x ao ae tl (mt_o93 x1 x m)) : wX_init_93 post J x1 x m fn ao ae tl := by
  unfold mt_o93 at h
  unfold wX_init_93
  exact mt_br h (fun h => mt_w393 hx h) (fun h => mt_br h (fun h => mt_w122 hx h) (fun h => mt_br h (fun h => mt_w122 hx h) (fun h => mt_w393 hx h)))
theorem mt_w36s {n : Nat} (hx : vp_in x 202) (hn : ¬ 202 ≤ x) (h : mt_Q (wX_init_36 post x1 fn n) x ao ae tl (mt_o36 x1 x)) : wX_init_36 post x1 fn (n + 1) x ao ae tl := by
  unfold mt_o36 at h
  rw [wX_init_36]
  exact br_f hn (mt_br h (fun h => mt_w70 hx h) (fun h => mt_br h (fun h => mt_w70 hx h) (fun h => mt_br h (fun h => mt_w70 hx h) (fun h => mt_br h (fun h => mt_w70 hx h) (fun h => mt_br h (fun h => mt_w93 hx h) (fun h => mt_br h (fun h => mt_w93 hx h) (fun h => mt_w393 hx h)))))))
end
/-- the two tables stand up to i -/
def mt_Tab (i : Nat) (ao ae : Nat → Int32) : Prop := ∀ j, j < i → ao j = mt_ow (nI j) ∧ ae j = mt_ef (nI j)
theorem mt_w36 {post : SX → Prop} {tl : Nat → Int64} (hp : ∀ ao ae : Nat → Int32, mt_Tab 202 ao ae → post (0, ao, ae, tl)) : ∀ d i : Nat, i + d = 202 → ∀ ao ae : Nat → Int32, mt_Tab i ao ae → wX_init_36 post 2432 0 (d + 1) (nI i) ao ae tl := by
  intro d
  induction d with
  | zero =>
    intro i hi ao ae h
    obtain rfl : i = 202 := by omega
    rw [wX_init_36]
    exact br_t (nI_le (a := 202) (b := 202) (by omega) (by omega)) (hp ao ae h)
  | succ d ih =>
    intro i hi ao ae h
    have hn : ¬ (202 : Int32) ≤ nI i := nI_ge (b := 202) (by omega) (by omega)
    refine mt_w36s (vp_in_nI (by omega) (by omega)) hn ?_
    unfold mt_Q mt_R mt_P
    rw [nI_1, nI_clamp (by omega)]
    refine ih (i + 1) (by omega) _ _ ?_
    intro j hj
    by_cases hji : j = i
    · subst hji
      exact ⟨pk_us, pk_us⟩
    · rw [pk_un hji, pk_un hji]
      exact h j (by omega)
theorem mt_init {post : SX → Prop} (hp : ∀ ao ae : Nat → Int32, mt_Tab 202 ao ae → post (0, ao, ae, fun _ => 0)) : wpX_init post := by
  unfold wpX_init
  refine ⟨203, ?_⟩
  exact mt_w36 hp 202 0 rfl _ _ (fun j hj => absurd hj (Nat.not_lt_zero j))
end
section
-- printed by wip/P-21/gen.py
/-! X.afterFacts -/
def xf_89 (x3 x6 : Int32) : Int32 := if x6 = 0 then x3 else 0
theorem xg_89 {post : Int32 → Prop} {x3 : Int32} {x6 : Int32} {f_notes : Int32} {a_own : Nat → Int32} {a_effect : Nat → Int32} {a_tallies : Nat → Int64} (h : post (xf_89 x3 x6)) : wX_afterFacts_89 post x3 x6 f_notes a_own a_effect a_tallies := by
  unfold xf_89 at h
  unfold wX_afterFacts_89
  exact mt_br (P := post) h (fun h => h) (fun h => h)
def xf_276 (ev : Int32) (x3 x5 x7 : Int32) : Int32 := if (ev &&& 4) = 0 then (x3 &&& (x7 ^^^ (-1))) else if x5 = 0 then (((x3 &&& 127) &&& (x7 ^^^ (-1))) ||| 130944) else (x3 &&& (x7 ^^^ (-1)))
theorem xg_276 {post : Int32 → Prop} {x1 : Int32} {x3 : Int32} {x5 : Int32} {x7 : Int32} {f_notes : Int32} {a_own : Nat → Int32} {a_effect : Nat → Int32} {a_tallies : Nat → Int64} (hx : vp_in x1 202) (h : post (xf_276 (a_effect x1.toNatClampNeg) x3 x5 x7)) : wX_afterFacts_276 post x1 x3 x5 x7 f_notes a_own a_effect a_tallies := by
  unfold xf_276 at h
  unfold wX_afterFacts_276
  exact ⟨hx, mt_br (P := post) h (fun h => h) (fun h => mt_br (P := post) h (fun h => h) (fun h => h))⟩
def xf_268 (ev : Int32) (x3 x5 x7 : Int32) : Int32 := xf_276 ev x3 x5 (x7 ||| 2048)
theorem xg_268 {post : Int32 → Prop} {x1 : Int32} {x3 : Int32} {x5 : Int32} {x7 : Int32} {f_notes : Int32} {a_own : Nat → Int32} {a_effect : Nat → Int32} {a_tallies : Nat → Int64} (hx : vp_in x1 202) (h : post (xf_268 (a_effect x1.toNatClampNeg) x3 x5 x7)) : wX_afterFacts_268 post x1 x3 x5 x7 f_notes a_own a_effect a_tallies := by
  unfold xf_268 at h
  unfold wX_afterFacts_268
  exact nm_e (xg_276 hx h)
def xf_245 (ev : Int32) (x3 x4 x5 x6 x7 x8 : Int32) : Int32 := if (x3 &&& 4096) = 0 then if x6 = 0 then if x4 = 0 then xf_276 ev x3 x5 x7 else if x8 = 0 then xf_276 ev x3 x5 x7 else xf_268 ev x3 x5 x7 else xf_268 ev x3 x5 x7 else xf_276 ev x3 x5 x7
theorem xg_245 {post : Int32 → Prop} {x1 : Int32} {x3 : Int32} {x4 : Int32} {x5 : Int32} {x6 : Int32} {x7 : Int32} {x8 : Int32} {f_notes : Int32} {a_own : Nat → Int32} {a_effect : Nat → Int32} {a_tallies : Nat → Int64} (hx : vp_in x1 202) (h : post (xf_245 (a_effect x1.toNatClampNeg) x3 x4 x5 x6 x7 x8)) : wX_afterFacts_245 post x1 x3 x4 x5 x6 x7 x8 f_notes a_own a_effect a_tallies := by
  unfold xf_245 at h
  unfold wX_afterFacts_245
  exact mt_br (P := post) h (fun h => mt_br (P := post) h (fun h => mt_br (P := post) h (fun h => xg_276 hx h) (fun h => mt_br (P := post) h (fun h => xg_276 hx h) (fun h => xg_268 hx h))) (fun h => xg_268 hx h)) (fun h => xg_276 hx h)
def xf_232 (ev : Int32) (x3 x4 x5 x6 x7 x8 : Int32) : Int32 := if x6 = 0 then xf_245 ev x3 x4 x5 x6 x7 x8 else xf_245 ev x3 x4 x5 x6 (x7 ||| 9728) x8
theorem xg_232 {post : Int32 → Prop} {x1 : Int32} {x3 : Int32} {x4 : Int32} {x5 : Int32} {x6 : Int32} {x7 : Int32} {x8 : Int32} {f_notes : Int32} {a_own : Nat → Int32} {a_effect : Nat → Int32} {a_tallies : Nat → Int64} (hx : vp_in x1 202) (h : post (xf_232 (a_effect x1.toNatClampNeg) x3 x4 x5 x6 x7 x8)) : wX_afterFacts_232 post x1 x3 x4 x5 x6 x7 x8 f_notes a_own a_effect a_tallies := by
  unfold xf_232 at h
  unfold wX_afterFacts_232
  exact mt_br (P := post) h (fun h => xg_245 hx h) (fun h => nm_e (xg_245 hx h))
def xf_224 (ev : Int32) (x3 x4 x5 x6 x7 x8 : Int32) : Int32 := xf_232 ev x3 x4 x5 x6 (x7 ||| 256) x8
theorem xg_224 {post : Int32 → Prop} {x1 : Int32} {x3 : Int32} {x4 : Int32} {x5 : Int32} {x6 : Int32} {x7 : Int32} {x8 : Int32} {f_notes : Int32} {a_own : Nat → Int32} {a_effect : Nat → Int32} {a_tallies : Nat → Int64} (hx : vp_in x1 202) (h : post (xf_224 (a_effect x1.toNatClampNeg) x3 x4 x5 x6 x7 x8)) : wX_afterFacts_224 post x1 x3 x4 x5 x6 x7 x8 f_notes a_own a_effect a_tallies := by
  unfold xf_224 at h
  unfold wX_afterFacts_224
  exact nm_e (xg_232 hx h)
def xf_192 (b183 b185 : Bool) (ev : Int32) (x3 x4 x5 x6 x7 x8 : Int32) : Int32 := cond b183 (xf_232 ev x3 x4 x5 x6 x7 x8) (cond b185 (xf_232 ev x3 x4 x5 x6 x7 x8) (if x6 = 0 then if x4 = 0 then xf_232 ev x3 x4 x5 x6 x7 x8 else if (x3 &&& 9728) = 0 then xf_224 ev x3 x4 x5 x6 x7 x8 else xf_232 ev x3 x4 x5 x6 x7 x8 else xf_224 ev x3 x4 x5 x6 x7 x8))
theorem xg_192 {post : Int32 → Prop} {x1 : Int32} {x3 : Int32} {x4 : Int32} {x5 : Int32} {x6 : Int32} {x7 : Int32} {x8 : Int32} {f_notes : Int32} {a_own : Nat → Int32} {a_effect : Nat → Int32} {a_tallies : Nat → Int64} (hx : vp_in x1 202) (h : post (xf_192 (decide (x1 = 183)) (decide (x1 = 185)) (a_effect x1.toNatClampNeg) x3 x4 x5 x6 x7 x8)) : wX_afterFacts_192 post x1 x3 x4 x5 x6 x7 x8 f_notes a_own a_effect a_tallies := by
  unfold xf_192 at h
  unfold wX_afterFacts_192
  exact mt_bd (P := post) h (fun h => xg_232 hx h) (fun h => mt_bd (P := post) h (fun h => xg_232 hx h) (fun h => mt_br (P := post) h (fun h => mt_br (P := post) h (fun h => xg_232 hx h) (fun h => mt_br (P := post) h (fun h => xg_224 hx h) (fun h => xg_232 hx h))) (fun h => xg_224 hx h)))
def xf_184 (b183 b185 : Bool) (ev : Int32) (x3 x4 x5 x6 x7 x8 : Int32) : Int32 := xf_192 b183 b185 ev x3 x4 x5 x6 (x7 ||| 128) x8
theorem xg_184 {post : Int32 → Prop} {x1 : Int32} {x3 : Int32} {x4 : Int32} {x5 : Int32} {x6 : Int32} {x7 : Int32} {x8 : Int32} {f_notes : Int32} {a_own : Nat → Int32} {a_effect : Nat → Int32} {a_tallies : Nat → Int64} (hx : vp_in x1 202) (h : post (xf_184 (decide (x1 = 183)) (decide (x1 = 185)) (a_effect x1.toNatClampNeg) x3 x4 x5 x6 x7 x8)) : wX_afterFacts_184 post x1 x3 x4 x5 x6 x7 x8 f_notes a_own a_effect a_tallies := by
  unfold xf_184 at h
  unfold wX_afterFacts_184
  exact nm_e (xg_192 hx h)
def xf_167 (b183 b185 : Bool) (ev : Int32) (x3 x4 x5 x6 x7 z0 : Int32) : Int32 := if x6 = 0 then if x4 = 0 then xf_192 b183 b185 ev x3 x4 x5 x6 x7 z0 else if z0 = 0 then xf_192 b183 b185 ev x3 x4 x5 x6 x7 z0 else xf_184 b183 b185 ev x3 x4 x5 x6 x7 z0 else xf_184 b183 b185 ev x3 x4 x5 x6 x7 z0
theorem xg_167 {post : Int32 → Prop} {x1 : Int32} {x3 : Int32} {x4 : Int32} {x5 : Int32} {x6 : Int32} {x7 : Int32} {z0 : Int32} {f_notes : Int32} {a_own : Nat → Int32} {a_effect : Nat → Int32} {a_tallies : Nat → Int64} (hx : vp_in x1 202) (h : post (xf_167 (decide (x1 = 183)) (decide (x1 = 185)) (a_effect x1.toNatClampNeg) x3 x4 x5 x6 x7 z0)) : wX_afterFacts_167 post x1 x3 x4 x5 x6 x7 z0 f_notes a_own a_effect a_tallies := by
  unfold xf_167 at h
  unfold wX_afterFacts_167
  exact mt_br (P := post) h (fun h => mt_br (P := post) h (fun h => xg_192 hx h) (fun h => mt_br (P := post) h (fun h => xg_192 hx h) (fun h => xg_184 hx h))) (fun h => xg_184 hx h)
def xf_154 (b183 b185 : Bool) (ev : Int32) (x3 x4 x5 x6 x7 : Int32) : Int32 := if (x3 &&& 1536) = 0 then xf_167 b183 b185 ev x3 x4 x5 x6 x7 1 else xf_167 b183 b185 ev x3 x4 x5 x6 x7 0
theorem xg_154 {post : Int32 → Prop} {x1 : Int32} {x3 : Int32} {x4 : Int32} {x5 : Int32} {x6 : Int32} {x7 : Int32} {f_notes : Int32} {a_own : Nat → Int32} {a_effect : Nat → Int32} {a_tallies : Nat → Int64} (hx : vp_in x1 202) (h : post (xf_154 (decide (x1 = 183)) (decide (x1 = 185)) (a_effect x1.toNatClampNeg) x3 x4 x5 x6 x7)) : wX_afterFacts_154 post x1 x3 x4 x5 x6 x7 f_notes a_own a_effect a_tallies := by
  unfold xf_154 at h
  unfold wX_afterFacts_154
  exact mt_br (P := post) h (fun h => xg_167 hx h) (fun h => xg_167 hx h)
def xf_140 (b183 b185 q64 : Bool) (ev : Int32) (x3 x4 x5 x6 x7 : Int32) : Int32 := cond q64 (xf_154 b183 b185 ev x3 x4 x5 x6 x7) (xf_154 b183 b185 ev x3 x4 x5 x6 (x7 ||| 40))
theorem xg_140 {post : Int32 → Prop} {x1 : Int32} {x2 : Int32} {x3 : Int32} {x4 : Int32} {x5 : Int32} {x6 : Int32} {x7 : Int32} {f_notes : Int32} {a_own : Nat → Int32} {a_effect : Nat → Int32} {a_tallies : Nat → Int64} (hx : vp_in x1 202) (h : post (xf_140 (decide (x1 = 183)) (decide (x1 = 185)) (decide ((x2 &&& 64) = 0)) (a_effect x1.toNatClampNeg) x3 x4 x5 x6 x7)) : wX_afterFacts_140 post x1 x2 x3 x4 x5 x6 x7 f_notes a_own a_effect a_tallies := by
  unfold xf_140 at h
  unfold wX_afterFacts_140
  exact mt_bd (P := post) h (fun h => xg_154 hx h) (fun h => nm_e (xg_154 hx h))
def xf_127 (b183 b185 q4 q64 : Bool) (ev : Int32) (x3 x4 x5 x6 x7 : Int32) : Int32 := cond q4 (xf_140 b183 b185 q64 ev x3 x4 x5 x6 x7) (xf_140 b183 b185 q64 ev x3 x4 x5 x6 (x7 ||| 20))
theorem xg_127 {post : Int32 → Prop} {x1 : Int32} {x2 : Int32} {x3 : Int32} {x4 : Int32} {x5 : Int32} {x6 : Int32} {x7 : Int32} {f_notes : Int32} {a_own : Nat → Int32} {a_effect : Nat → Int32} {a_tallies : Nat → Int64} (hx : vp_in x1 202) (h : post (xf_127 (decide (x1 = 183)) (decide (x1 = 185)) (decide ((x2 &&& 4) = 0)) (decide ((x2 &&& 64) = 0)) (a_effect x1.toNatClampNeg) x3 x4 x5 x6 x7)) : wX_afterFacts_127 post x1 x2 x3 x4 x5 x6 x7 f_notes a_own a_effect a_tallies := by
  unfold xf_127 at h
  unfold wX_afterFacts_127
  exact mt_bd (P := post) h (fun h => xg_140 hx h) (fun h => nm_e (xg_140 hx h))
def xf_115 (b183 b185 q2 q4 q64 : Bool) (ev : Int32) (x3 x4 x5 x6 x7 : Int32) : Int32 := cond q2 (xf_127 b183 b185 q4 q64 ev x3 x4 x5 x6 x7) (xf_127 b183 b185 q4 q64 ev x3 x4 x5 x6 (x7 ||| 2))
theorem xg_115 {post : Int32 → Prop} {x1 : Int32} {x2 : Int32} {x3 : Int32} {x4 : Int32} {x5 : Int32} {x6 : Int32} {x7 : Int32} {f_notes : Int32} {a_own : Nat → Int32} {a_effect : Nat → Int32} {a_tallies : Nat → Int64} (hx : vp_in x1 202) (h : post (xf_115 (decide (x1 = 183)) (decide (x1 = 185)) (decide ((x2 &&& 2) = 0)) (decide ((x2 &&& 4) = 0)) (decide ((x2 &&& 64) = 0)) (a_effect x1.toNatClampNeg) x3 x4 x5 x6 x7)) : wX_afterFacts_115 post x1 x2 x3 x4 x5 x6 x7 f_notes a_own a_effect a_tallies := by
  unfold xf_115 at h
  unfold wX_afterFacts_115
  exact mt_bd (P := post) h (fun h => xg_127 hx h) (fun h => nm_e (xg_127 hx h))
def xf_62 (b18 b19 b20 b186 b183 b185 q1 q2 q4 q64 : Bool) (ev : Int32) (x3 x4 x5 z0 : Int32) : Int32 := cond b18 (xf_89 x3 z0) (cond b19 (xf_89 x3 z0) (cond b20 (xf_89 x3 z0) (cond b186 (xf_89 x3 z0) (cond q1 (xf_115 b183 b185 q2 q4 q64 ev x3 x4 x5 z0 0) (xf_115 b183 b185 q2 q4 q64 ev x3 x4 x5 z0 ((0 : Int32) ||| 1))))))
theorem xg_62 {post : Int32 → Prop} {x1 : Int32} {x2 : Int32} {x3 : Int32} {x4 : Int32} {x5 : Int32} {z0 : Int32} {f_notes : Int32} {a_own : Nat → Int32} {a_effect : Nat → Int32} {a_tallies : Nat → Int64} (hx : vp_in x1 202) (h : post (xf_62 (decide (x1 = 18)) (decide (x1 = 19)) (decide (x1 = 20)) (decide (x1 = 186)) (decide (x1 = 183)) (decide (x1 = 185)) (decide ((x2 &&& 1) = 0)) (decide ((x2 &&& 2) = 0)) (decide ((x2 &&& 4) = 0)) (decide ((x2 &&& 64) = 0)) (a_effect x1.toNatClampNeg) x3 x4 x5 z0)) : wX_afterFacts_62 post x1 x2 x3 x4 x5 z0 f_notes a_own a_effect a_tallies := by
  unfold xf_62 at h
  unfold wX_afterFacts_62
  exact mt_bd (P := post) h (fun h => xg_89 h) (fun h => mt_bd (P := post) h (fun h => xg_89 h) (fun h => mt_bd (P := post) h (fun h => xg_89 h) (fun h => mt_bd (P := post) h (fun h => xg_89 h) (fun h => mt_bd (P := post) h (fun h => xg_115 hx h) (fun h => nm_e (xg_115 hx h))))))
def xf_61 (b18 b19 b20 b186 b183 b185 q1 q2 q4 q64 : Bool) (ev : Int32) (x3 x4 x5 : Int32) : Int32 := xf_62 b18 b19 b20 b186 b183 b185 q1 q2 q4 q64 ev x3 x4 x5 0
theorem xg_61 {post : Int32 → Prop} {x1 : Int32} {x2 : Int32} {x3 : Int32} {x4 : Int32} {x5 : Int32} {f_notes : Int32} {a_own : Nat → Int32} {a_effect : Nat → Int32} {a_tallies : Nat → Int64} (hx : vp_in x1 202) (h : post (xf_61 (decide (x1 = 18)) (decide (x1 = 19)) (decide (x1 = 20)) (decide (x1 = 186)) (decide (x1 = 183)) (decide (x1 = 185)) (decide ((x2 &&& 1) = 0)) (decide ((x2 &&& 2) = 0)) (decide ((x2 &&& 4) = 0)) (decide ((x2 &&& 64) = 0)) (a_effect x1.toNatClampNeg) x3 x4 x5)) : wX_afterFacts_61 post x1 x2 x3 x4 x5 f_notes a_own a_effect a_tallies := by
  unfold xf_61 at h
  unfold wX_afterFacts_61
  exact xg_62 hx h
def xf_43 (b18 b19 b20 b186 b183 b185 q1 q2 q4 q32 q64 : Bool) (ev : Int32) (x3 x4 z0 : Int32) : Int32 := if x4 = 0 then xf_61 b18 b19 b20 b186 b183 b185 q1 q2 q4 q64 ev x3 x4 z0 else cond q32 (xf_61 b18 b19 b20 b186 b183 b185 q1 q2 q4 q64 ev x3 x4 z0) (xf_62 b18 b19 b20 b186 b183 b185 q1 q2 q4 q64 ev x3 x4 z0 1)
theorem xg_43 {post : Int32 → Prop} {x1 : Int32} {x2 : Int32} {x3 : Int32} {x4 : Int32} {z0 : Int32} {f_notes : Int32} {a_own : Nat → Int32} {a_effect : Nat → Int32} {a_tallies : Nat → Int64} (hx : vp_in x1 202) (h : post (xf_43 (decide (x1 = 18)) (decide (x1 = 19)) (decide (x1 = 20)) (decide (x1 = 186)) (decide (x1 = 183)) (decide (x1 = 185)) (decide ((x2 &&& 1) = 0)) (decide ((x2 &&& 2) = 0)) (decide ((x2 &&& 4) = 0)) (decide ((x2 &&& 32) = 0)) (decide ((x2 &&& 64) = 0)) (a_effect x1.toNatClampNeg) x3 x4 z0)) : wX_afterFacts_43 post x1 x2 x3 x4 z0 f_notes a_own a_effect a_tallies := by
  unfold xf_43 at h
  unfold wX_afterFacts_43
  exact mt_br (P := post) h (fun h => xg_61 hx h) (fun h => mt_bd (P := post) h (fun h => xg_61 hx h) (fun h => xg_62 hx h))
def xf_29 (b18 b19 b20 b186 b183 b185 q1 q2 q4 q16 q32 q64 : Bool) (ev : Int32) (x3 z0 : Int32) : Int32 := cond q16 (xf_43 b18 b19 b20 b186 b183 b185 q1 q2 q4 q32 q64 ev x3 z0 0) (xf_43 b18 b19 b20 b186 b183 b185 q1 q2 q4 q32 q64 ev x3 z0 1)
theorem xg_29 {post : Int32 → Prop} {x1 : Int32} {x2 : Int32} {x3 : Int32} {z0 : Int32} {f_notes : Int32} {a_own : Nat → Int32} {a_effect : Nat → Int32} {a_tallies : Nat → Int64} (hx : vp_in x1 202) (h : post (xf_29 (decide (x1 = 18)) (decide (x1 = 19)) (decide (x1 = 20)) (decide (x1 = 186)) (decide (x1 = 183)) (decide (x1 = 185)) (decide ((x2 &&& 1) = 0)) (decide ((x2 &&& 2) = 0)) (decide ((x2 &&& 4) = 0)) (decide ((x2 &&& 16) = 0)) (decide ((x2 &&& 32) = 0)) (decide ((x2 &&& 64) = 0)) (a_effect x1.toNatClampNeg) x3 z0)) : wX_afterFacts_29 post x1 x2 x3 z0 f_notes a_own a_effect a_tallies := by
  unfold xf_29 at h
  unfold wX_afterFacts_29
  exact mt_bd (P := post) h (fun h => xg_43 hx h) (fun h => xg_43 hx h)
/-! Y.row -/
def yf_343 (x1 : Int32) : Int32 := if 53 < x1 then if 86 < x1 then if 95 < x1 then if x1 = 132 then 131072 else if 152 < x1 then 262144 else 0 else 262144 else 131072 else 0
theorem yg_343 {post : Int32 → Prop} {x1 : Int32} {f_n : Int32} {a_ops : Nat → Int32} {a_known : Nat → Int32} {a_weights : Nat → Int64} (h : post (yf_343 x1)) : wY_row_343 post x1 f_n a_ops a_known a_weights := by
  unfold yf_343 at h
  unfold wY_row_343
  exact mt_br (P := post) h (fun h => mt_br (P := post) h (fun h => mt_br (P := post) h (fun h => mt_br (P := post) h (fun h => h) (fun h => mt_br (P := post) h (fun h => h) (fun h => h))) (fun h => h)) (fun h => h)) (fun h => h)
def yf_row (p0 : Int32) : Int32 := if p0 = 18 then 130944 else if p0 = 19 then 130944 else if p0 = 20 then 130944 else if p0 = 108 then 2 else if p0 = 109 then 2 else if p0 = 112 then 2 else if p0 = 113 then 2 else if p0 < 46 then if p0 < 79 then if p0 < 172 then yf_343 p0 else if 197 < p0 then yf_343 p0 else if p0 = 172 then 262208 else if p0 = 173 then 262208 else if p0 = 174 then 262208 else if p0 = 175 then 262208 else if p0 = 176 then 262208 else if p0 = 177 then 262208 else if p0 = 178 then 527232 else if p0 = 179 then 658304 else if p0 = 180 then 2945 else if p0 = 181 then 134017 else if p0 = 182 then 286081 else if p0 = 183 then 286081 else if p0 = 184 then 806272 else if p0 = 185 then 286081 else if p0 = 186 then 393088 else if p0 = 187 then 534912 else if p0 = 188 then 16 else if p0 = 189 then 2448 else if p0 = 190 then 1 else if p0 = 191 then 262209 else if p0 = 192 then 2464 else if p0 = 193 then 2432 else if p0 = 194 then 262145 else if p0 = 195 then 262209 else if p0 = 196 then yf_343 p0 else if p0 = 197 then 2448 else 0 else if 86 < p0 then if p0 < 172 then yf_343 p0 else if 197 < p0 then yf_343 p0 else if p0 = 172 then 262208 else if p0 = 173 then 262208 else if p0 = 174 then 262208 else if p0 = 175 then 262208 else if p0 = 176 then 262208 else if p0 = 177 then 262208 else if p0 = 178 then 527232 else if p0 = 179 then 658304 else if p0 = 180 then 2945 else if p0 = 181 then 134017 else if p0 = 182 then 286081 else if p0 = 183 then 286081 else if p0 = 184 then 806272 else if p0 = 185 then 286081 else if p0 = 186 then 393088 else if p0 = 187 then 534912 else if p0 = 188 then 16 else if p0 = 189 then 2448 else if p0 = 190 then 1 else if p0 = 191 then 262209 else if p0 = 192 then 2464 else if p0 = 193 then 2432 else if p0 = 194 then 262145 else if p0 = 195 then 262209 else if p0 = 196 then yf_343 p0 else if p0 = 197 then 2448 else 0 else if p0 = 79 then 131077 else if p0 = 80 then 131077 else if p0 = 81 then 131077 else if p0 = 82 then 131077 else if p0 = 83 then 131085 else if p0 = 84 then 131077 else if p0 = 85 then 131077 else if p0 = 86 then 131077 else 0 else if 53 < p0 then if p0 < 79 then if p0 < 172 then yf_343 p0 else if 197 < p0 then yf_343 p0 else if p0 = 172 then 262208 else if p0 = 173 then 262208 else if p0 = 174 then 262208 else if p0 = 175 then 262208 else if p0 = 176 then 262208 else if p0 = 177 then 262208 else if p0 = 178 then 527232 else if p0 = 179 then 658304 else if p0 = 180 then 2945 else if p0 = 181 then 134017 else if p0 = 182 then 286081 else if p0 = 183 then 286081 else if p0 = 184 then 806272 else if p0 = 185 then 286081 else if p0 = 186 then 393088 else if p0 = 187 then 534912 else if p0 = 188 then 16 else if p0 = 189 then 2448 else if p0 = 190 then 1 else if p0 = 191 then 262209 else if p0 = 192 then 2464 else if p0 = 193 then 2432 else if p0 = 194 then 262145 else if p0 = 195 then 262209 else if p0 = 196 then yf_343 p0 else if p0 = 197 then 2448 else 0 else if 86 < p0 then if p0 < 172 then yf_343 p0 else if 197 < p0 then yf_343 p0 else if p0 = 172 then 262208 else if p0 = 173 then 262208 else if p0 = 174 then 262208 else if p0 = 175 then 262208 else if p0 = 176 then 262208 else if p0 = 177 then 262208 else if p0 = 178 then 527232 else if p0 = 179 then 658304 else if p0 = 180 then 2945 else if p0 = 181 then 134017 else if p0 = 182 then 286081 else if p0 = 183 then 286081 else if p0 = 184 then 806272 else if p0 = 185 then 286081 else if p0 = 186 then 393088 else if p0 = 187 then 534912 else if p0 = 188 then 16 else if p0 = 189 then 2448 else if p0 = 190 then 1 else if p0 = 191 then 262209 else if p0 = 192 then 2464 else if p0 = 193 then 2432 else if p0 = 194 then 262145 else if p0 = 195 then 262209 else if p0 = 196 then yf_343 p0 else if p0 = 197 then 2448 else 0 else if p0 = 79 then 131077 else if p0 = 80 then 131077 else if p0 = 81 then 131077 else if p0 = 82 then 131077 else if p0 = 83 then 131085 else if p0 = 84 then 131077 else if p0 = 85 then 131077 else if p0 = 86 then 131077 else 0 else if p0 = 46 then 5 else if p0 = 47 then 5 else if p0 = 48 then 5 else if p0 = 49 then 5 else if p0 = 50 then 5 else if p0 = 51 then 5 else if p0 = 52 then 5 else if p0 = 53 then 5 else 0
theorem yg_row {post : Int32 → Prop} {f_n : Int32} {a_ops : Nat → Int32} {a_known : Nat → Int32} {a_weights : Nat → Int64} {p0 : Int32} (h : post (yf_row p0)) : wpY_row post (f_n, a_ops, a_known, a_weights) p0 := by
  unfold yf_row at h
  unfold wpY_row
  exact mt_br (P := post) h (fun h => h) (fun h => mt_br (P := post) h (fun h => h) (fun h => mt_br (P := post) h (fun h => h) (fun h => mt_br (P := post) h (fun h => h) (fun h => mt_br (P := post) h (fun h => h) (fun h => mt_br (P := post) h (fun h => h) (fun h => mt_br (P := post) h (fun h => h) (fun h => mt_br (P := post) h (fun h => mt_br (P := post) h (fun h => mt_br (P := post) h (fun h => yg_343 h) (fun h => mt_br (P := post) h (fun h => yg_343 h) (fun h => mt_br (P := post) h (fun h => h) (fun h => mt_br (P := post) h (fun h => h) (fun h => mt_br (P := post) h (fun h => h) (fun h => mt_br (P := post) h (fun h => h) (fun h => mt_br (P := post) h (fun h => h) (fun h => mt_br (P := post) h (fun h => h) (fun h => mt_br (P := post) h (fun h => h) (fun h => mt_br (P := post) h (fun h => h) (fun h => mt_br (P := post) h (fun h => h) (fun h => mt_br (P := post) h (fun h => h) (fun h => mt_br (P := post) h (fun h => h) (fun h => mt_br (P := post) h (fun h => h) (fun h => mt_br (P := post) h (fun h => h) (fun h => mt_br (P := post) h (fun h => h) (fun h => mt_br (P := post) h (fun h => h) (fun h => mt_br (P := post) h (fun h => h) (fun h => mt_br (P := post) h (fun h => h) (fun h => mt_br (P := post) h (fun h => h) (fun h => mt_br (P := post) h (fun h => h) (fun h => mt_br (P := post) h (fun h => h) (fun h => mt_br (P := post) h (fun h => h) (fun h => mt_br (P := post) h (fun h => h) (fun h => mt_br (P := post) h (fun h => h) (fun h => mt_br (P := post) h (fun h => h) (fun h => mt_br (P := post) h (fun h => yg_343 h) (fun h => mt_br (P := post) h (fun h => h) (fun h => trivial))))))))))))))))))))))))))))) (fun h => mt_br (P := post) h (fun h => mt_br (P := post) h (fun h => yg_343 h) (fun h => mt_br (P := post) h (fun h => yg_343 h) (fun h => mt_br (P := post) h (fun h => h) (fun h => mt_br (P := post) h (fun h => h) (fun h => mt_br (P := post) h (fun h => h) (fun h => mt_br (P := post) h (fun h => h) (fun h => mt_br (P := post) h (fun h => h) (fun h => mt_br (P := post) h (fun h => h) (fun h => mt_br (P := post) h (fun h => h) (fun h => mt_br (P := post) h (fun h => h) (fun h => mt_br (P := post) h (fun h => h) (fun h => mt_br (P := post) h (fun h => h) (fun h => mt_br (P := post) h (fun h => h) (fun h => mt_br (P := post) h (fun h => h) (fun h => mt_br (P := post) h (fun h => h) (fun h => mt_br (P := post) h (fun h => h) (fun h => mt_br (P := post) h (fun h => h) (fun h => mt_br (P := post) h (fun h => h) (fun h => mt_br (P := post) h (fun h => h) (fun h => mt_br (P := post) h (fun h => h) (fun h => mt_br (P := post) h (fun h => h) (fun h => mt_br (P := post) h (fun h => h) (fun h => mt_br (P := post) h (fun h => h) (fun h => mt_br (P := post) h (fun h => h) (fun h => mt_br (P := post) h (fun h => h) (fun h => mt_br (P := post) h (fun h => h) (fun h => mt_br (P := post) h (fun h => yg_343 h) (fun h => mt_br (P := post) h (fun h => h) (fun h => trivial))))))))))))))))))))))))))))) (fun h => mt_br (P := post) h (fun h => h) (fun h => mt_br (P := post) h (fun h => h) (fun h => mt_br (P := post) h (fun h => h) (fun h => mt_br (P := post) h (fun h => h) (fun h => mt_br (P := post) h (fun h => h) (fun h => mt_br (P := post) h (fun h => h) (fun h => mt_br (P := post) h (fun h => h) (fun h => mt_br (P := post) h (fun h => h) (fun h => trivial))))))))))) (fun h => mt_br (P := post) h (fun h => mt_br (P := post) h (fun h => mt_br (P := post) h (fun h => yg_343 h) (fun h => mt_br (P := post) h (fun h => yg_343 h) (fun h => mt_br (P := post) h (fun h => h) (fun h => mt_br (P := post) h (fun h => h) (fun h => mt_br (P := post) h (fun h => h) (fun h => mt_br (P := post) h (fun h => h) (fun h => mt_br (P := post) h (fun h => h) (fun h => mt_br (P := post) h (fun h => h) (fun h => mt_br (P := post) h (fun h => h) (fun h => mt_br (P := post) h (fun h => h) (fun h => mt_br (P := post) h (fun h => h) (fun h => mt_br (P := post) h (fun h => h) (fun h => mt_br (P := post) h (fun h => h) (fun h => mt_br (P := post) h (fun h => h) (fun h => mt_br (P := post) h (fun h => h) (fun h => mt_br (P := post) h (fun h => h) (fun h => mt_br (P := post) h (fun h => h) (fun h => mt_br (P := post) h (fun h => h) (fun h => mt_br (P := post) h (fun h => h) (fun h => mt_br (P := post) h (fun h => h) (fun h => mt_br (P := post) h (fun h => h) (fun h => mt_br (P := post) h (fun h => h) (fun h => mt_br (P := post) h (fun h => h) (fun h => mt_br (P := post) h (fun h => h) (fun h => mt_br (P := post) h (fun h => h) (fun h => mt_br (P := post) h (fun h => h) (fun h => mt_br (P := post) h (fun h => yg_343 h) (fun h => mt_br (P := post) h (fun h => h) (fun h => trivial))))))))))))))))))))))))))))) (fun h => mt_br (P := post) h (fun h => mt_br (P := post) h (fun h => yg_343 h) (fun h => mt_br (P := post) h (fun h => yg_343 h) (fun h => mt_br (P := post) h (fun h => h) (fun h => mt_br (P := post) h (fun h => h) (fun h => mt_br (P := post) h (fun h => h) (fun h => mt_br (P := post) h (fun h => h) (fun h => mt_br (P := post) h (fun h => h) (fun h => mt_br (P := post) h (fun h => h) (fun h => mt_br (P := post) h (fun h => h) (fun h => mt_br (P := post) h (fun h => h) (fun h => mt_br (P := post) h (fun h => h) (fun h => mt_br (P := post) h (fun h => h) (fun h => mt_br (P := post) h (fun h => h) (fun h => mt_br (P := post) h (fun h => h) (fun h => mt_br (P := post) h (fun h => h) (fun h => mt_br (P := post) h (fun h => h) (fun h => mt_br (P := post) h (fun h => h) (fun h => mt_br (P := post) h (fun h => h) (fun h => mt_br (P := post) h (fun h => h) (fun h => mt_br (P := post) h (fun h => h) (fun h => mt_br (P := post) h (fun h => h) (fun h => mt_br (P := post) h (fun h => h) (fun h => mt_br (P := post) h (fun h => h) (fun h => mt_br (P := post) h (fun h => h) (fun h => mt_br (P := post) h (fun h => h) (fun h => mt_br (P := post) h (fun h => h) (fun h => mt_br (P := post) h (fun h => yg_343 h) (fun h => mt_br (P := post) h (fun h => h) (fun h => trivial))))))))))))))))))))))))))))) (fun h => mt_br (P := post) h (fun h => h) (fun h => mt_br (P := post) h (fun h => h) (fun h => mt_br (P := post) h (fun h => h) (fun h => mt_br (P := post) h (fun h => h) (fun h => mt_br (P := post) h (fun h => h) (fun h => mt_br (P := post) h (fun h => h) (fun h => mt_br (P := post) h (fun h => h) (fun h => mt_br (P := post) h (fun h => h) (fun h => trivial))))))))))) (fun h => mt_br (P := post) h (fun h => h) (fun h => mt_br (P := post) h (fun h => h) (fun h => mt_br (P := post) h (fun h => h) (fun h => mt_br (P := post) h (fun h => h) (fun h => mt_br (P := post) h (fun h => h) (fun h => mt_br (P := post) h (fun h => h) (fun h => mt_br (P := post) h (fun h => h) (fun h => mt_br (P := post) h (fun h => h) (fun h => trivial)))))))))))))))))
/-! Y.afterFacts: the loop and its body -/
def yf_413 (x3 x6 x7 x8 x9 x10 x11 x12 x13 x14 : Int32) : Int32 := if x14 = 0 then x11 else if x13 = 0 then (x11 ||| ((1 : Int32) <<< (x12 &&& 31))) else x11
theorem yg_413 {post : Int32 → Prop} {J155 : Int32 → Int32 → Prop} {x1 : Int32} {x2 : Int32} {x3 : Int32} {x6 : Int32} {x7 : Int32} {x8 : Int32} {x9 : Int32} {x10 : Int32} {x11 : Int32} {x12 : Int32} {x13 : Int32} {x14 : Int32} {f_n : Int32} {a_ops : Nat → Int32} {a_known : Nat → Int32} {a_weights : Nat → Int64} (h : (mt_K J155 (x12 + 1)) (yf_413 x3 x6 x7 x8 x9 x10 x11 x12 x13 x14)) : wY_afterFacts_413 post J155 x1 x2 x3 x6 x7 x8 x9 x10 x11 x12 x13 x14 f_n a_ops a_known a_weights := by
  unfold yf_413 at h
  unfold wY_afterFacts_413
  exact mt_br (P := (mt_K J155 (x12 + 1))) h (fun h => nm_e (h)) (fun h => mt_br (P := (mt_K J155 (x12 + 1))) h (fun h => nm_e (nm_e (h))) (fun h => nm_e (h)))
def yf_393 (x3 x6 x7 x8 x9 x10 x11 x12 x13 z0 : Int32) : Int32 := if x8 = 0 then yf_413 x3 x6 x7 x8 x9 x10 x11 x12 x13 z0 else if x12 < 7 then yf_413 x3 x6 x7 x8 x9 x10 x11 x12 x13 z0 else yf_413 x3 x6 x7 x8 x9 x10 x11 x12 0 1
theorem yg_393 {post : Int32 → Prop} {J155 : Int32 → Int32 → Prop} {x1 : Int32} {x2 : Int32} {x3 : Int32} {x6 : Int32} {x7 : Int32} {x8 : Int32} {x9 : Int32} {x10 : Int32} {x11 : Int32} {x12 : Int32} {x13 : Int32} {z0 : Int32} {f_n : Int32} {a_ops : Nat → Int32} {a_known : Nat → Int32} {a_weights : Nat → Int64} (h : (mt_K J155 (x12 + 1)) (yf_393 x3 x6 x7 x8 x9 x10 x11 x12 x13 z0)) : wY_afterFacts_393 post J155 x1 x2 x3 x6 x7 x8 x9 x10 x11 x12 x13 z0 f_n a_ops a_known a_weights := by
  unfold yf_393 at h
  unfold wY_afterFacts_393
  exact mt_br (P := (mt_K J155 (x12 + 1))) h (fun h => yg_413 h) (fun h => mt_br (P := (mt_K J155 (x12 + 1))) h (fun h => yg_413 h) (fun h => yg_413 h))
def yf_379 (x3 x6 x7 x8 x9 x10 x11 x12 x13 : Int32) : Int32 := if ((x3 >>> (x12 &&& 31)) &&& 1) = 0 then yf_393 x3 x6 x7 x8 x9 x10 x11 x12 x13 0 else yf_393 x3 x6 x7 x8 x9 x10 x11 x12 x13 1
theorem yg_379 {post : Int32 → Prop} {J155 : Int32 → Int32 → Prop} {x1 : Int32} {x2 : Int32} {x3 : Int32} {x6 : Int32} {x7 : Int32} {x8 : Int32} {x9 : Int32} {x10 : Int32} {x11 : Int32} {x12 : Int32} {x13 : Int32} {f_n : Int32} {a_ops : Nat → Int32} {a_known : Nat → Int32} {a_weights : Nat → Int64} (h : (mt_K J155 (x12 + 1)) (yf_379 x3 x6 x7 x8 x9 x10 x11 x12 x13)) : wY_afterFacts_379 post J155 x1 x2 x3 x6 x7 x8 x9 x10 x11 x12 x13 f_n a_ops a_known a_weights := by
  unfold yf_379 at h
  unfold wY_afterFacts_379
  exact mt_br (P := (mt_K J155 (x12 + 1))) h (fun h => yg_393 h) (fun h => yg_393 h)
def yf_370 (x3 x6 x7 x8 x9 x10 x11 x12 x13 : Int32) : Int32 := if x7 = 0 then yf_379 x3 x6 x7 x8 x9 x10 x11 x12 x13 else yf_379 x3 x6 x7 x8 x9 x10 x11 x12 x6
theorem yg_370 {post : Int32 → Prop} {J155 : Int32 → Int32 → Prop} {x1 : Int32} {x2 : Int32} {x3 : Int32} {x6 : Int32} {x7 : Int32} {x8 : Int32} {x9 : Int32} {x10 : Int32} {x11 : Int32} {x12 : Int32} {x13 : Int32} {f_n : Int32} {a_ops : Nat → Int32} {a_known : Nat → Int32} {a_weights : Nat → Int64} (h : (mt_K J155 (x12 + 1)) (yf_370 x3 x6 x7 x8 x9 x10 x11 x12 x13)) : wY_afterFacts_370 post J155 x1 x2 x3 x6 x7 x8 x9 x10 x11 x12 x13 f_n a_ops a_known a_weights := by
  unfold yf_370 at h
  unfold wY_afterFacts_370
  exact mt_br (P := (mt_K J155 (x12 + 1))) h (fun h => yg_379 h) (fun h => yg_379 h)
def yf_367 (x3 x6 x7 x8 x9 x10 x11 x12 : Int32) : Int32 := yf_370 x3 x6 x7 x8 x9 x10 x11 x12 0
theorem yg_367 {post : Int32 → Prop} {J155 : Int32 → Int32 → Prop} {x1 : Int32} {x2 : Int32} {x3 : Int32} {x6 : Int32} {x7 : Int32} {x8 : Int32} {x9 : Int32} {x10 : Int32} {x11 : Int32} {x12 : Int32} {f_n : Int32} {a_ops : Nat → Int32} {a_known : Nat → Int32} {a_weights : Nat → Int64} (h : (mt_K J155 (x12 + 1)) (yf_367 x3 x6 x7 x8 x9 x10 x11 x12)) : wY_afterFacts_367 post J155 x1 x2 x3 x6 x7 x8 x9 x10 x11 x12 f_n a_ops a_known a_weights := by
  unfold yf_367 at h
  unfold wY_afterFacts_367
  exact yg_370 h
def yf_247 (x3 x6 x7 x8 x9 x10 x11 x12 z0 : Int32) : Int32 := yf_370 x3 x6 x7 x8 x9 x10 x11 x12 z0
theorem yg_247 {post : Int32 → Prop} {J155 : Int32 → Int32 → Prop} {x1 : Int32} {x2 : Int32} {x3 : Int32} {x6 : Int32} {x7 : Int32} {x8 : Int32} {x9 : Int32} {x10 : Int32} {x11 : Int32} {x12 : Int32} {z0 : Int32} {f_n : Int32} {a_ops : Nat → Int32} {a_known : Nat → Int32} {a_weights : Nat → Int64} (h : (mt_K J155 (x12 + 1)) (yf_247 x3 x6 x7 x8 x9 x10 x11 x12 z0)) : wY_afterFacts_247 post J155 x1 x2 x3 x6 x7 x8 x9 x10 x11 x12 z0 f_n a_ops a_known a_weights := by
  unfold yf_247 at h
  unfold wY_afterFacts_247
  exact yg_370 h
def yf_263 (x3 x6 x7 x8 x9 x10 x11 x12 z0 : Int32) : Int32 := yf_370 x3 x6 x7 x8 x9 x10 x11 x12 z0
theorem yg_263 {post : Int32 → Prop} {J155 : Int32 → Int32 → Prop} {x1 : Int32} {x2 : Int32} {x3 : Int32} {x6 : Int32} {x7 : Int32} {x8 : Int32} {x9 : Int32} {x10 : Int32} {x11 : Int32} {x12 : Int32} {z0 : Int32} {f_n : Int32} {a_ops : Nat → Int32} {a_known : Nat → Int32} {a_weights : Nat → Int64} (h : (mt_K J155 (x12 + 1)) (yf_263 x3 x6 x7 x8 x9 x10 x11 x12 z0)) : wY_afterFacts_263 post J155 x1 x2 x3 x6 x7 x8 x9 x10 x11 x12 z0 f_n a_ops a_known a_weights := by
  unfold yf_263 at h
  unfold wY_afterFacts_263
  exact yg_370 h
def yf_279 (x3 x6 x7 x8 x9 x10 x11 x12 z0 : Int32) : Int32 := yf_370 x3 x6 x7 x8 x9 x10 x11 x12 z0
theorem yg_279 {post : Int32 → Prop} {J155 : Int32 → Int32 → Prop} {x1 : Int32} {x2 : Int32} {x3 : Int32} {x6 : Int32} {x7 : Int32} {x8 : Int32} {x9 : Int32} {x10 : Int32} {x11 : Int32} {x12 : Int32} {z0 : Int32} {f_n : Int32} {a_ops : Nat → Int32} {a_known : Nat → Int32} {a_weights : Nat → Int64} (h : (mt_K J155 (x12 + 1)) (yf_279 x3 x6 x7 x8 x9 x10 x11 x12 z0)) : wY_afterFacts_279 post J155 x1 x2 x3 x6 x7 x8 x9 x10 x11 x12 z0 f_n a_ops a_known a_weights := by
  unfold yf_279 at h
  unfold wY_afterFacts_279
  exact yg_370 h
def yf_268 (q4 : Bool) (x3 x6 x7 x8 x9 x10 x11 x12 : Int32) : Int32 := cond q4 (yf_279 x3 x6 x7 x8 x9 x10 x11 x12 0) (yf_279 x3 x6 x7 x8 x9 x10 x11 x12 1)
theorem yg_268 {post : Int32 → Prop} {J155 : Int32 → Int32 → Prop} {x1 : Int32} {x2 : Int32} {x3 : Int32} {x6 : Int32} {x7 : Int32} {x8 : Int32} {x9 : Int32} {x10 : Int32} {x11 : Int32} {x12 : Int32} {f_n : Int32} {a_ops : Nat → Int32} {a_known : Nat → Int32} {a_weights : Nat → Int64} (h : (mt_K J155 (x12 + 1)) (yf_268 (decide ((x2 &&& 4) = 0)) x3 x6 x7 x8 x9 x10 x11 x12)) : wY_afterFacts_268 post J155 x1 x2 x3 x6 x7 x8 x9 x10 x11 x12 f_n a_ops a_known a_weights := by
  unfold yf_268 at h
  unfold wY_afterFacts_268
  exact mt_bd (P := (mt_K J155 (x12 + 1))) h (fun h => yg_279 h) (fun h => yg_279 h)
def yf_296 (x3 x6 x7 x8 x9 x10 x11 x12 z0 : Int32) : Int32 := yf_370 x3 x6 x7 x8 x9 x10 x11 x12 z0
theorem yg_296 {post : Int32 → Prop} {J155 : Int32 → Int32 → Prop} {x1 : Int32} {x2 : Int32} {x3 : Int32} {x6 : Int32} {x7 : Int32} {x8 : Int32} {x9 : Int32} {x10 : Int32} {x11 : Int32} {x12 : Int32} {z0 : Int32} {f_n : Int32} {a_ops : Nat → Int32} {a_known : Nat → Int32} {a_weights : Nat → Int64} (h : (mt_K J155 (x12 + 1)) (yf_296 x3 x6 x7 x8 x9 x10 x11 x12 z0)) : wY_afterFacts_296 post J155 x1 x2 x3 x6 x7 x8 x9 x10 x11 x12 z0 f_n a_ops a_known a_weights := by
  unfold yf_296 at h
  unfold wY_afterFacts_296
  exact yg_370 h
def yf_284 (q64 : Bool) (x3 x6 x7 x8 x9 x10 x11 x12 : Int32) : Int32 := cond q64 (yf_296 x3 x6 x7 x8 x9 x10 x11 x12 0) (yf_296 x3 x6 x7 x8 x9 x10 x11 x12 1)
theorem yg_284 {post : Int32 → Prop} {J155 : Int32 → Int32 → Prop} {x1 : Int32} {x2 : Int32} {x3 : Int32} {x6 : Int32} {x7 : Int32} {x8 : Int32} {x9 : Int32} {x10 : Int32} {x11 : Int32} {x12 : Int32} {f_n : Int32} {a_ops : Nat → Int32} {a_known : Nat → Int32} {a_weights : Nat → Int64} (h : (mt_K J155 (x12 + 1)) (yf_284 (decide ((x2 &&& 64) = 0)) x3 x6 x7 x8 x9 x10 x11 x12)) : wY_afterFacts_284 post J155 x1 x2 x3 x6 x7 x8 x9 x10 x11 x12 f_n a_ops a_known a_weights := by
  unfold yf_284 at h
  unfold wY_afterFacts_284
  exact mt_bd (P := (mt_K J155 (x12 + 1))) h (fun h => yg_296 h) (fun h => yg_296 h)
def yf_332 (x3 x6 x7 x8 x9 x10 x11 x12 z0 : Int32) : Int32 := yf_370 x3 x6 x7 x8 x9 x10 x11 x12 z0
theorem yg_332 {post : Int32 → Prop} {J155 : Int32 → Int32 → Prop} {x1 : Int32} {x2 : Int32} {x3 : Int32} {x6 : Int32} {x7 : Int32} {x8 : Int32} {x9 : Int32} {x10 : Int32} {x11 : Int32} {x12 : Int32} {z0 : Int32} {f_n : Int32} {a_ops : Nat → Int32} {a_known : Nat → Int32} {a_weights : Nat → Int64} (h : (mt_K J155 (x12 + 1)) (yf_332 x3 x6 x7 x8 x9 x10 x11 x12 z0)) : wY_afterFacts_332 post J155 x1 x2 x3 x6 x7 x8 x9 x10 x11 x12 z0 f_n a_ops a_known a_weights := by
  unfold yf_332 at h
  unfold wY_afterFacts_332
  exact yg_370 h
def yf_331 (x3 x6 x7 x8 x9 x10 x11 x12 : Int32) : Int32 := yf_332 x3 x6 x7 x8 x9 x10 x11 x12 0
theorem yg_331 {post : Int32 → Prop} {J155 : Int32 → Int32 → Prop} {x1 : Int32} {x2 : Int32} {x3 : Int32} {x6 : Int32} {x7 : Int32} {x8 : Int32} {x9 : Int32} {x10 : Int32} {x11 : Int32} {x12 : Int32} {f_n : Int32} {a_ops : Nat → Int32} {a_known : Nat → Int32} {a_weights : Nat → Int64} (h : (mt_K J155 (x12 + 1)) (yf_331 x3 x6 x7 x8 x9 x10 x11 x12)) : wY_afterFacts_331 post J155 x1 x2 x3 x6 x7 x8 x9 x10 x11 x12 f_n a_ops a_known a_weights := by
  unfold yf_331 at h
  unfold wY_afterFacts_331
  exact yg_332 h
def yf_337 (x3 x6 x7 x8 x9 x10 x11 x12 : Int32) : Int32 := yf_370 x3 x6 x7 x8 x9 x10 x11 x12 x6
theorem yg_337 {post : Int32 → Prop} {J155 : Int32 → Int32 → Prop} {x1 : Int32} {x2 : Int32} {x3 : Int32} {x6 : Int32} {x7 : Int32} {x8 : Int32} {x9 : Int32} {x10 : Int32} {x11 : Int32} {x12 : Int32} {f_n : Int32} {a_ops : Nat → Int32} {a_known : Nat → Int32} {a_weights : Nat → Int64} (h : (mt_K J155 (x12 + 1)) (yf_337 x3 x6 x7 x8 x9 x10 x11 x12)) : wY_afterFacts_337 post J155 x1 x2 x3 x6 x7 x8 x9 x10 x11 x12 f_n a_ops a_known a_weights := by
  unfold yf_337 at h
  unfold wY_afterFacts_337
  exact yg_370 h
def yf_362 (x3 x6 x7 x8 x9 x10 x11 x12 z0 : Int32) : Int32 := yf_370 x3 x6 x7 x8 x9 x10 x11 x12 z0
theorem yg_362 {post : Int32 → Prop} {J155 : Int32 → Int32 → Prop} {x1 : Int32} {x2 : Int32} {x3 : Int32} {x6 : Int32} {x7 : Int32} {x8 : Int32} {x9 : Int32} {x10 : Int32} {x11 : Int32} {x12 : Int32} {z0 : Int32} {f_n : Int32} {a_ops : Nat → Int32} {a_known : Nat → Int32} {a_weights : Nat → Int64} (h : (mt_K J155 (x12 + 1)) (yf_362 x3 x6 x7 x8 x9 x10 x11 x12 z0)) : wY_afterFacts_362 post J155 x1 x2 x3 x6 x7 x8 x9 x10 x11 x12 z0 f_n a_ops a_known a_weights := by
  unfold yf_362 at h
  unfold wY_afterFacts_362
  exact yg_370 h
def yf_361 (x3 x6 x7 x8 x9 x10 x11 x12 : Int32) : Int32 := yf_362 x3 x6 x7 x8 x9 x10 x11 x12 0
theorem yg_361 {post : Int32 → Prop} {J155 : Int32 → Int32 → Prop} {x1 : Int32} {x2 : Int32} {x3 : Int32} {x6 : Int32} {x7 : Int32} {x8 : Int32} {x9 : Int32} {x10 : Int32} {x11 : Int32} {x12 : Int32} {f_n : Int32} {a_ops : Nat → Int32} {a_known : Nat → Int32} {a_weights : Nat → Int64} (h : (mt_K J155 (x12 + 1)) (yf_361 x3 x6 x7 x8 x9 x10 x11 x12)) : wY_afterFacts_361 post J155 x1 x2 x3 x6 x7 x8 x9 x10 x11 x12 f_n a_ops a_known a_weights := by
  unfold yf_361 at h
  unfold wY_afterFacts_361
  exact yg_362 h
def yf_step (b183 b185 q1 q2 q4 q64 : Bool) (x3 x6 x7 x8 x9 x10 : Int32) (x11 x12 : Int32) : Int32 := if x12 < 0 then yf_367 x3 x6 x7 x8 x9 x10 x11 x12 else if 13 < x12 then yf_367 x3 x6 x7 x8 x9 x10 x11 x12 else if x12 = 0 then cond q1 (yf_247 x3 x6 x7 x8 x9 x10 x11 x12 0) (yf_247 x3 x6 x7 x8 x9 x10 x11 x12 1) else if x12 = 1 then cond q2 (yf_263 x3 x6 x7 x8 x9 x10 x11 x12 0) (yf_263 x3 x6 x7 x8 x9 x10 x11 x12 1) else if x12 = 2 then yf_268 q4 x3 x6 x7 x8 x9 x10 x11 x12 else if x12 = 3 then yf_284 q64 x3 x6 x7 x8 x9 x10 x11 x12 else if x12 = 4 then yf_268 q4 x3 x6 x7 x8 x9 x10 x11 x12 else if x12 = 5 then yf_284 q64 x3 x6 x7 x8 x9 x10 x11 x12 else if x12 = 6 then yf_367 x3 x6 x7 x8 x9 x10 x11 x12 else if x12 = 7 then yf_370 x3 x6 x7 x8 x9 x10 x11 x12 x9 else if x12 = 8 then cond b183 (yf_331 x3 x6 x7 x8 x9 x10 x11 x12) (cond b185 (yf_331 x3 x6 x7 x8 x9 x10 x11 x12) (if x10 = 0 then yf_331 x3 x6 x7 x8 x9 x10 x11 x12 else yf_332 x3 x6 x7 x8 x9 x10 x11 x12 1)) else if x12 = 9 then yf_337 x3 x6 x7 x8 x9 x10 x11 x12 else if x12 = 10 then yf_337 x3 x6 x7 x8 x9 x10 x11 x12 else if x12 = 11 then if (x3 &&& 4096) = 0 then if x9 = 0 then yf_361 x3 x6 x7 x8 x9 x10 x11 x12 else yf_362 x3 x6 x7 x8 x9 x10 x11 x12 1 else yf_361 x3 x6 x7 x8 x9 x10 x11 x12 else if x12 = 12 then yf_367 x3 x6 x7 x8 x9 x10 x11 x12 else if x12 = 13 then yf_337 x3 x6 x7 x8 x9 x10 x11 x12 else 0
def yf_155 (b183 b185 q1 q2 q4 q64 : Bool) (x3 x6 x7 x8 x9 x10 : Int32) : Nat → Nat → Int32 → Int32
  | 0, _, x11 => x11
  | d + 1, i, x11 => yf_155 b183 b185 q1 q2 q4 q64 x3 x6 x7 x8 x9 x10 d (i + 1) (yf_step b183 b185 q1 q2 q4 q64 x3 x6 x7 x8 x9 x10 x11 (nI i))
theorem yg_step {post : Int32 → Prop} {x1 : Int32} {x2 : Int32} {x3 : Int32} {x6 : Int32} {x7 : Int32} {x8 : Int32} {x9 : Int32} {x10 : Int32} {f_n : Int32} {a_ops : Nat → Int32} {a_known : Nat → Int32} {a_weights : Nat → Int64} {n : Nat} {x11 x12 : Int32} (hk : ¬ 17 ≤ x12) (h : mt_K (wY_afterFacts_155 post x1 x2 x3 x6 x7 x8 x9 x10 f_n a_ops a_known a_weights n) (x12 + 1) (yf_step (decide (x1 = 183)) (decide (x1 = 185)) (decide ((x2 &&& 1) = 0)) (decide ((x2 &&& 2) = 0)) (decide ((x2 &&& 4) = 0)) (decide ((x2 &&& 64) = 0)) x3 x6 x7 x8 x9 x10 x11 x12)) : wY_afterFacts_155 post x1 x2 x3 x6 x7 x8 x9 x10 f_n a_ops a_known a_weights (n + 1) x11 x12 := by
  unfold yf_step at h
  rw [wY_afterFacts_155]
  exact br_f hk (mt_br (P := (mt_K (wY_afterFacts_155 post x1 x2 x3 x6 x7 x8 x9 x10 f_n a_ops a_known a_weights n) (x12 + 1))) h (fun h => yg_367 h) (fun h => mt_br (P := (mt_K (wY_afterFacts_155 post x1 x2 x3 x6 x7 x8 x9 x10 f_n a_ops a_known a_weights n) (x12 + 1))) h (fun h => yg_367 h) (fun h => mt_br (P := (mt_K (wY_afterFacts_155 post x1 x2 x3 x6 x7 x8 x9 x10 f_n a_ops a_known a_weights n) (x12 + 1))) h (fun h => mt_bd (P := (mt_K (wY_afterFacts_155 post x1 x2 x3 x6 x7 x8 x9 x10 f_n a_ops a_known a_weights n) (x12 + 1))) h (fun h => yg_247 h) (fun h => yg_247 h)) (fun h => mt_br (P := (mt_K (wY_afterFacts_155 post x1 x2 x3 x6 x7 x8 x9 x10 f_n a_ops a_known a_weights n) (x12 + 1))) h (fun h => mt_bd (P := (mt_K (wY_afterFacts_155 post x1 x2 x3 x6 x7 x8 x9 x10 f_n a_ops a_known a_weights n) (x12 + 1))) h (fun h => yg_263 h) (fun h => yg_263 h)) (fun h => mt_br (P := (mt_K (wY_afterFacts_155 post x1 x2 x3 x6 x7 x8 x9 x10 f_n a_ops a_known a_weights n) (x12 + 1))) h (fun h => yg_268 h) (fun h => mt_br (P := (mt_K (wY_afterFacts_155 post x1 x2 x3 x6 x7 x8 x9 x10 f_n a_ops a_known a_weights n) (x12 + 1))) h (fun h => yg_284 h) (fun h => mt_br (P := (mt_K (wY_afterFacts_155 post x1 x2 x3 x6 x7 x8 x9 x10 f_n a_ops a_known a_weights n) (x12 + 1))) h (fun h => yg_268 h) (fun h => mt_br (P := (mt_K (wY_afterFacts_155 post x1 x2 x3 x6 x7 x8 x9 x10 f_n a_ops a_known a_weights n) (x12 + 1))) h (fun h => yg_284 h) (fun h => mt_br (P := (mt_K (wY_afterFacts_155 post x1 x2 x3 x6 x7 x8 x9 x10 f_n a_ops a_known a_weights n) (x12 + 1))) h (fun h => yg_367 h) (fun h => mt_br (P := (mt_K (wY_afterFacts_155 post x1 x2 x3 x6 x7 x8 x9 x10 f_n a_ops a_known a_weights n) (x12 + 1))) h (fun h => yg_370 h) (fun h => mt_br (P := (mt_K (wY_afterFacts_155 post x1 x2 x3 x6 x7 x8 x9 x10 f_n a_ops a_known a_weights n) (x12 + 1))) h (fun h => mt_bd (P := (mt_K (wY_afterFacts_155 post x1 x2 x3 x6 x7 x8 x9 x10 f_n a_ops a_known a_weights n) (x12 + 1))) h (fun h => yg_331 h) (fun h => mt_bd (P := (mt_K (wY_afterFacts_155 post x1 x2 x3 x6 x7 x8 x9 x10 f_n a_ops a_known a_weights n) (x12 + 1))) h (fun h => yg_331 h) (fun h => mt_br (P := (mt_K (wY_afterFacts_155 post x1 x2 x3 x6 x7 x8 x9 x10 f_n a_ops a_known a_weights n) (x12 + 1))) h (fun h => yg_331 h) (fun h => yg_332 h)))) (fun h => mt_br (P := (mt_K (wY_afterFacts_155 post x1 x2 x3 x6 x7 x8 x9 x10 f_n a_ops a_known a_weights n) (x12 + 1))) h (fun h => yg_337 h) (fun h => mt_br (P := (mt_K (wY_afterFacts_155 post x1 x2 x3 x6 x7 x8 x9 x10 f_n a_ops a_known a_weights n) (x12 + 1))) h (fun h => yg_337 h) (fun h => mt_br (P := (mt_K (wY_afterFacts_155 post x1 x2 x3 x6 x7 x8 x9 x10 f_n a_ops a_known a_weights n) (x12 + 1))) h (fun h => mt_br (P := (mt_K (wY_afterFacts_155 post x1 x2 x3 x6 x7 x8 x9 x10 f_n a_ops a_known a_weights n) (x12 + 1))) h (fun h => mt_br (P := (mt_K (wY_afterFacts_155 post x1 x2 x3 x6 x7 x8 x9 x10 f_n a_ops a_known a_weights n) (x12 + 1))) h (fun h => yg_361 h) (fun h => yg_362 h)) (fun h => yg_361 h)) (fun h => mt_br (P := (mt_K (wY_afterFacts_155 post x1 x2 x3 x6 x7 x8 x9 x10 f_n a_ops a_known a_weights n) (x12 + 1))) h (fun h => yg_367 h) (fun h => mt_br (P := (mt_K (wY_afterFacts_155 post x1 x2 x3 x6 x7 x8 x9 x10 f_n a_ops a_known a_weights n) (x12 + 1))) h (fun h => yg_337 h) (fun h => trivial)))))))))))))))))
theorem yg_155 {post : Int32 → Prop} {x1 : Int32} {x2 : Int32} {x3 : Int32} {x6 : Int32} {x7 : Int32} {x8 : Int32} {x9 : Int32} {x10 : Int32} {f_n : Int32} {a_ops : Nat → Int32} {a_known : Nat → Int32} {a_weights : Nat → Int64} : ∀ d i : Nat, i + d = 17 → ∀ x11 : Int32, post (yf_155 (decide (x1 = 183)) (decide (x1 = 185)) (decide ((x2 &&& 1) = 0)) (decide ((x2 &&& 2) = 0)) (decide ((x2 &&& 4) = 0)) (decide ((x2 &&& 64) = 0)) x3 x6 x7 x8 x9 x10 d i x11) → wY_afterFacts_155 post x1 x2 x3 x6 x7 x8 x9 x10 f_n a_ops a_known a_weights (d + 1) x11 (nI i) := by
  intro d
  induction d with
  | zero =>
    intro i hi x11 h
    obtain rfl : i = 17 := by omega
    rw [wY_afterFacts_155]
    exact br_t (nI_le (a := 17) (b := 17) (by omega) (by omega)) h
  | succ d ih =>
    intro i hi x11 h
    refine yg_step (nI_ge (b := 17) (by omega) (by omega)) ?_
    unfold mt_K
    rw [nI_1]
    exact ih (i + 1) (by omega) _ h
/-! Y.afterFacts: what stands ahead of the loop -/
def yf_122 (b183 b185 q1 q2 q4 q64 : Bool) (x3 x4 x6 x7 x8 z0 : Int32) : Int32 := if x6 = 0 then if x4 = 0 then yf_155 b183 b185 q1 q2 q4 q64 x3 x6 x7 x8 z0 0 17 0 0 else if (x3 &&& 9728) = 0 then yf_155 b183 b185 q1 q2 q4 q64 x3 x6 x7 x8 z0 1 17 0 0 else yf_155 b183 b185 q1 q2 q4 q64 x3 x6 x7 x8 z0 0 17 0 0 else yf_155 b183 b185 q1 q2 q4 q64 x3 x6 x7 x8 z0 1 17 0 0
theorem yg_122 {post : Int32 → Prop} {x1 : Int32} {x2 : Int32} {x3 : Int32} {x4 : Int32} {x6 : Int32} {x7 : Int32} {x8 : Int32} {z0 : Int32} {f_n : Int32} {a_ops : Nat → Int32} {a_known : Nat → Int32} {a_weights : Nat → Int64} (h : post (yf_122 (decide (x1 = 183)) (decide (x1 = 185)) (decide ((x2 &&& 1) = 0)) (decide ((x2 &&& 2) = 0)) (decide ((x2 &&& 4) = 0)) (decide ((x2 &&& 64) = 0)) x3 x4 x6 x7 x8 z0)) : wY_afterFacts_122 post x1 x2 x3 x4 x6 x7 x8 z0 f_n a_ops a_known a_weights := by
  unfold yf_122 at h
  unfold wY_afterFacts_122
  exact mt_br (P := post) h (fun h => mt_br (P := post) h (fun h => ⟨18, yg_155 17 0 rfl 0 h⟩) (fun h => mt_br (P := post) h (fun h => ⟨18, yg_155 17 0 rfl 0 h⟩) (fun h => ⟨18, yg_155 17 0 rfl 0 h⟩))) (fun h => ⟨18, yg_155 17 0 rfl 0 h⟩)
def yf_117 (b183 b185 q1 q2 q4 q64 : Bool) (x3 x4 x6 x7 x8 : Int32) : Int32 := yf_122 b183 b185 q1 q2 q4 q64 x3 x4 x6 x7 x8 1
theorem yg_117 {post : Int32 → Prop} {x1 : Int32} {x2 : Int32} {x3 : Int32} {x4 : Int32} {x6 : Int32} {x7 : Int32} {x8 : Int32} {f_n : Int32} {a_ops : Nat → Int32} {a_known : Nat → Int32} {a_weights : Nat → Int64} (h : post (yf_117 (decide (x1 = 183)) (decide (x1 = 185)) (decide ((x2 &&& 1) = 0)) (decide ((x2 &&& 2) = 0)) (decide ((x2 &&& 4) = 0)) (decide ((x2 &&& 64) = 0)) x3 x4 x6 x7 x8)) : wY_afterFacts_117 post x1 x2 x3 x4 x6 x7 x8 f_n a_ops a_known a_weights := by
  unfold yf_117 at h
  unfold wY_afterFacts_117
  exact yg_122 h
def yf_121 (b183 b185 q1 q2 q4 q64 : Bool) (x3 x4 x6 x7 x8 : Int32) : Int32 := yf_122 b183 b185 q1 q2 q4 q64 x3 x4 x6 x7 x8 0
theorem yg_121 {post : Int32 → Prop} {x1 : Int32} {x2 : Int32} {x3 : Int32} {x4 : Int32} {x6 : Int32} {x7 : Int32} {x8 : Int32} {f_n : Int32} {a_ops : Nat → Int32} {a_known : Nat → Int32} {a_weights : Nat → Int64} (h : post (yf_121 (decide (x1 = 183)) (decide (x1 = 185)) (decide ((x2 &&& 1) = 0)) (decide ((x2 &&& 2) = 0)) (decide ((x2 &&& 4) = 0)) (decide ((x2 &&& 64) = 0)) x3 x4 x6 x7 x8)) : wY_afterFacts_121 post x1 x2 x3 x4 x6 x7 x8 f_n a_ops a_known a_weights := by
  unfold yf_121 at h
  unfold wY_afterFacts_121
  exact yg_122 h
def yf_97 (b183 b185 q1 q2 q4 q64 : Bool) (x3 x4 x6 x7 z0 : Int32) : Int32 := if x6 = 0 then if x4 = 0 then yf_121 b183 b185 q1 q2 q4 q64 x3 x4 x6 x7 z0 else if (x3 &&& 1536) = 0 then yf_117 b183 b185 q1 q2 q4 q64 x3 x4 x6 x7 z0 else yf_121 b183 b185 q1 q2 q4 q64 x3 x4 x6 x7 z0 else yf_117 b183 b185 q1 q2 q4 q64 x3 x4 x6 x7 z0
theorem yg_97 {post : Int32 → Prop} {x1 : Int32} {x2 : Int32} {x3 : Int32} {x4 : Int32} {x6 : Int32} {x7 : Int32} {z0 : Int32} {f_n : Int32} {a_ops : Nat → Int32} {a_known : Nat → Int32} {a_weights : Nat → Int64} (h : post (yf_97 (decide (x1 = 183)) (decide (x1 = 185)) (decide ((x2 &&& 1) = 0)) (decide ((x2 &&& 2) = 0)) (decide ((x2 &&& 4) = 0)) (decide ((x2 &&& 64) = 0)) x3 x4 x6 x7 z0)) : wY_afterFacts_97 post x1 x2 x3 x4 x6 x7 z0 f_n a_ops a_known a_weights := by
  unfold yf_97 at h
  unfold wY_afterFacts_97
  exact mt_br (P := post) h (fun h => mt_br (P := post) h (fun h => yg_121 h) (fun h => mt_br (P := post) h (fun h => yg_117 h) (fun h => yg_121 h))) (fun h => yg_117 h)
def yf_96 (b183 b185 q1 q2 q4 q64 : Bool) (x3 x4 x6 x7 : Int32) : Int32 := yf_97 b183 b185 q1 q2 q4 q64 x3 x4 x6 x7 0
theorem yg_96 {post : Int32 → Prop} {x1 : Int32} {x2 : Int32} {x3 : Int32} {x4 : Int32} {x6 : Int32} {x7 : Int32} {f_n : Int32} {a_ops : Nat → Int32} {a_known : Nat → Int32} {a_weights : Nat → Int64} (h : post (yf_96 (decide (x1 = 183)) (decide (x1 = 185)) (decide ((x2 &&& 1) = 0)) (decide ((x2 &&& 2) = 0)) (decide ((x2 &&& 4) = 0)) (decide ((x2 &&& 64) = 0)) x3 x4 x6 x7)) : wY_afterFacts_96 post x1 x2 x3 x4 x6 x7 f_n a_ops a_known a_weights := by
  unfold yf_96 at h
  unfold wY_afterFacts_96
  exact yg_97 h
def yf_78 (b183 b185 q1 q2 q4 q64 : Bool) (x3 x4 x5 x6 z0 : Int32) : Int32 := if (x3 &&& 524288) = 0 then yf_96 b183 b185 q1 q2 q4 q64 x3 x4 x6 z0 else if x5 = 0 then yf_97 b183 b185 q1 q2 q4 q64 x3 x4 x6 z0 1 else yf_96 b183 b185 q1 q2 q4 q64 x3 x4 x6 z0
theorem yg_78 {post : Int32 → Prop} {x1 : Int32} {x2 : Int32} {x3 : Int32} {x4 : Int32} {x5 : Int32} {x6 : Int32} {z0 : Int32} {f_n : Int32} {a_ops : Nat → Int32} {a_known : Nat → Int32} {a_weights : Nat → Int64} (h : post (yf_78 (decide (x1 = 183)) (decide (x1 = 185)) (decide ((x2 &&& 1) = 0)) (decide ((x2 &&& 2) = 0)) (decide ((x2 &&& 4) = 0)) (decide ((x2 &&& 64) = 0)) x3 x4 x5 x6 z0)) : wY_afterFacts_78 post x1 x2 x3 x4 x5 x6 z0 f_n a_ops a_known a_weights := by
  unfold yf_78 at h
  unfold wY_afterFacts_78
  exact mt_br (P := post) h (fun h => yg_96 h) (fun h => mt_br (P := post) h (fun h => yg_97 h) (fun h => yg_96 h))
def yf_64 (b183 b185 q1 q2 q4 q64 : Bool) (x3 x4 x5 z0 : Int32) : Int32 := if (x3 &&& 65536) = 0 then yf_78 b183 b185 q1 q2 q4 q64 x3 x4 x5 z0 0 else yf_78 b183 b185 q1 q2 q4 q64 x3 x4 x5 z0 1
theorem yg_64 {post : Int32 → Prop} {x1 : Int32} {x2 : Int32} {x3 : Int32} {x4 : Int32} {x5 : Int32} {z0 : Int32} {f_n : Int32} {a_ops : Nat → Int32} {a_known : Nat → Int32} {a_weights : Nat → Int64} (h : post (yf_64 (decide (x1 = 183)) (decide (x1 = 185)) (decide ((x2 &&& 1) = 0)) (decide ((x2 &&& 2) = 0)) (decide ((x2 &&& 4) = 0)) (decide ((x2 &&& 64) = 0)) x3 x4 x5 z0)) : wY_afterFacts_64 post x1 x2 x3 x4 x5 z0 f_n a_ops a_known a_weights := by
  unfold yf_64 at h
  unfold wY_afterFacts_64
  exact mt_br (P := post) h (fun h => yg_78 h) (fun h => yg_78 h)
def yf_63 (b183 b185 q1 q2 q4 q64 : Bool) (x3 x4 x5 : Int32) : Int32 := yf_64 b183 b185 q1 q2 q4 q64 x3 x4 x5 0
theorem yg_63 {post : Int32 → Prop} {x1 : Int32} {x2 : Int32} {x3 : Int32} {x4 : Int32} {x5 : Int32} {f_n : Int32} {a_ops : Nat → Int32} {a_known : Nat → Int32} {a_weights : Nat → Int64} (h : post (yf_63 (decide (x1 = 183)) (decide (x1 = 185)) (decide ((x2 &&& 1) = 0)) (decide ((x2 &&& 2) = 0)) (decide ((x2 &&& 4) = 0)) (decide ((x2 &&& 64) = 0)) x3 x4 x5)) : wY_afterFacts_63 post x1 x2 x3 x4 x5 f_n a_ops a_known a_weights := by
  unfold yf_63 at h
  unfold wY_afterFacts_63
  exact yg_64 h
def yf_45 (b183 b185 q1 q2 q4 q32 q64 : Bool) (x3 x4 z0 : Int32) : Int32 := if x4 = 0 then yf_63 b183 b185 q1 q2 q4 q64 x3 x4 z0 else cond q32 (yf_63 b183 b185 q1 q2 q4 q64 x3 x4 z0) (yf_64 b183 b185 q1 q2 q4 q64 x3 x4 z0 1)
theorem yg_45 {post : Int32 → Prop} {x1 : Int32} {x2 : Int32} {x3 : Int32} {x4 : Int32} {z0 : Int32} {f_n : Int32} {a_ops : Nat → Int32} {a_known : Nat → Int32} {a_weights : Nat → Int64} (h : post (yf_45 (decide (x1 = 183)) (decide (x1 = 185)) (decide ((x2 &&& 1) = 0)) (decide ((x2 &&& 2) = 0)) (decide ((x2 &&& 4) = 0)) (decide ((x2 &&& 32) = 0)) (decide ((x2 &&& 64) = 0)) x3 x4 z0)) : wY_afterFacts_45 post x1 x2 x3 x4 z0 f_n a_ops a_known a_weights := by
  unfold yf_45 at h
  unfold wY_afterFacts_45
  exact mt_br (P := post) h (fun h => yg_63 h) (fun h => mt_bd (P := post) h (fun h => yg_63 h) (fun h => yg_64 h))
def yf_31 (b183 b185 q1 q2 q4 q16 q32 q64 : Bool) (x3 z0 : Int32) : Int32 := cond q16 (yf_45 b183 b185 q1 q2 q4 q32 q64 x3 z0 0) (yf_45 b183 b185 q1 q2 q4 q32 q64 x3 z0 1)
theorem yg_31 {post : Int32 → Prop} {x1 : Int32} {x2 : Int32} {x3 : Int32} {z0 : Int32} {f_n : Int32} {a_ops : Nat → Int32} {a_known : Nat → Int32} {a_weights : Nat → Int64} (h : post (yf_31 (decide (x1 = 183)) (decide (x1 = 185)) (decide ((x2 &&& 1) = 0)) (decide ((x2 &&& 2) = 0)) (decide ((x2 &&& 4) = 0)) (decide ((x2 &&& 16) = 0)) (decide ((x2 &&& 32) = 0)) (decide ((x2 &&& 64) = 0)) x3 z0)) : wY_afterFacts_31 post x1 x2 x3 z0 f_n a_ops a_known a_weights := by
  unfold yf_31 at h
  unfold wY_afterFacts_31
  exact mt_bd (P := post) h (fun h => yg_45 h) (fun h => yg_45 h)
/-! the two tops, op within -/
def xf_top (b18 b19 b20 b186 b183 b185 q1 q2 q4 q8 q16 q32 q64 : Bool) (ev : Int32) (x3 : Int32) : Int32 := cond q8 (xf_29 b18 b19 b20 b186 b183 b185 q1 q2 q4 q16 q32 q64 ev x3 0) (xf_29 b18 b19 b20 b186 b183 b185 q1 q2 q4 q16 q32 q64 ev x3 1)
def yf_top (b183 b185 q1 q2 q4 q8 q16 q32 q64 : Bool) (x3 : Int32) : Int32 := cond q8 (yf_31 b183 b185 q1 q2 q4 q16 q32 q64 x3 0) (yf_31 b183 b185 q1 q2 q4 q16 q32 q64 x3 1)
end
section
/-! the plain law: the tables agree, and afterFacts gives one answer on both sides -/
theorem mt_t127 : ∀ j, j < 202 → yf_row (nI j) &&& 127 = mt_ow (nI j) &&& 127 := by decide +kernel
theorem mt_tL : ∀ j, j < 202 → yf_row (nI j) &&& 130944 = mt_ow (nI j) &&& 130944 := by decide +kernel
theorem mt_tI : ∀ j, j < 202 → ((yf_row (nI j) &&& 524288) = 0 ↔ (mt_ef (nI j) &&& 4) = 0) := by decide +kernel
theorem mt_t3 : ∀ j, j < 202 → (yf_row (nI j) >>> ((17 : Int32) &&& 31)) &&& 3 = mt_ef (nI j) &&& 3 := by decide +kernel
/-! the classes of opcodes: six questions on op, own, effect, row; for each class the 128 facts (printed by wip/P-21/genlist.py) -/
def mt_L : List (Bool × Bool × Bool × Bool × Bool × Bool × Int32 × Int32 × Int32) := [
  (false, false, false, false, false, false, 0, 0, 0),
  (true, false, false, false, false, false, 130944, 0, 130944),
  (false, true, false, false, false, false, 130944, 0, 130944),
  (false, false, true, false, false, false, 130944, 0, 130944),
  (false, false, false, false, false, false, 5, 0, 5),
  (false, false, false, false, false, false, 0, 1, 131072),
  (false, false, false, false, false, false, 5, 1, 131077),
  (false, false, false, false, false, false, 13, 1, 131085),
  (false, false, false, false, false, false, 0, 2, 262144),
  (false, false, false, false, false, false, 2, 0, 2),
  (false, false, false, false, false, false, 64, 2, 262208),
  (false, false, false, false, false, false, 2944, 4, 527232),
  (false, false, false, false, false, false, 2944, 5, 658304),
  (false, false, false, false, false, false, 2945, 0, 2945),
  (false, false, false, false, false, false, 2945, 1, 134017),
  (false, false, false, false, false, false, 23937, 2, 286081),
  (false, false, false, false, true, false, 23937, 2, 286081),
  (false, false, false, false, false, false, 19840, 6, 806272),
  (false, false, false, false, false, true, 23937, 2, 286081),
  (false, false, false, true, false, false, 130944, 2, 393088),
  (false, false, false, false, false, false, 10624, 4, 534912),
  (false, false, false, false, false, false, 16, 0, 16),
  (false, false, false, false, false, false, 2448, 0, 2448),
  (false, false, false, false, false, false, 1, 0, 1),
  (false, false, false, false, false, false, 65, 2, 262209),
  (false, false, false, false, false, false, 2464, 0, 2464),
  (false, false, false, false, false, false, 2432, 0, 2432),
  (false, false, false, false, false, false, 1, 2, 262145)]
def mt_ok (t : Bool × Bool × Bool × Bool × Bool × Bool × Int32 × Int32 × Int32) : Prop := ∀ q1 q2 q4 q8 q16 q32 q64 : Bool, xf_top t.1 t.2.1 t.2.2.1 t.2.2.2.1 t.2.2.2.2.1 t.2.2.2.2.2.1 q1 q2 q4 q8 q16 q32 q64 t.2.2.2.2.2.2.2.1 t.2.2.2.2.2.2.1 = yf_top t.2.2.2.2.1 t.2.2.2.2.2.1 q1 q2 q4 q8 q16 q32 q64 t.2.2.2.2.2.2.2.2
theorem mt_c0 : mt_ok (false, false, false, false, false, false, 0, 0, 0) := by unfold mt_ok; decide +kernel
theorem mt_c1 : mt_ok (true, false, false, false, false, false, 130944, 0, 130944) := by unfold mt_ok; decide +kernel
theorem mt_c2 : mt_ok (false, true, false, false, false, false, 130944, 0, 130944) := by unfold mt_ok; decide +kernel
theorem mt_c3 : mt_ok (false, false, true, false, false, false, 130944, 0, 130944) := by unfold mt_ok; decide +kernel
theorem mt_c4 : mt_ok (false, false, false, false, false, false, 5, 0, 5) := by unfold mt_ok; decide +kernel
theorem mt_c5 : mt_ok (false, false, false, false, false, false, 0, 1, 131072) := by unfold mt_ok; decide +kernel
theorem mt_c6 : mt_ok (false, false, false, false, false, false, 5, 1, 131077) := by unfold mt_ok; decide +kernel
theorem mt_c7 : mt_ok (false, false, false, false, false, false, 13, 1, 131085) := by unfold mt_ok; decide +kernel
theorem mt_c8 : mt_ok (false, false, false, false, false, false, 0, 2, 262144) := by unfold mt_ok; decide +kernel
theorem mt_c9 : mt_ok (false, false, false, false, false, false, 2, 0, 2) := by unfold mt_ok; decide +kernel
theorem mt_c10 : mt_ok (false, false, false, false, false, false, 64, 2, 262208) := by unfold mt_ok; decide +kernel
theorem mt_c11 : mt_ok (false, false, false, false, false, false, 2944, 4, 527232) := by unfold mt_ok; decide +kernel
theorem mt_c12 : mt_ok (false, false, false, false, false, false, 2944, 5, 658304) := by unfold mt_ok; decide +kernel
theorem mt_c13 : mt_ok (false, false, false, false, false, false, 2945, 0, 2945) := by unfold mt_ok; decide +kernel
theorem mt_c14 : mt_ok (false, false, false, false, false, false, 2945, 1, 134017) := by unfold mt_ok; decide +kernel
theorem mt_c15 : mt_ok (false, false, false, false, false, false, 23937, 2, 286081) := by unfold mt_ok; decide +kernel
theorem mt_c16 : mt_ok (false, false, false, false, true, false, 23937, 2, 286081) := by unfold mt_ok; decide +kernel
theorem mt_c17 : mt_ok (false, false, false, false, false, false, 19840, 6, 806272) := by unfold mt_ok; decide +kernel
theorem mt_c18 : mt_ok (false, false, false, false, false, true, 23937, 2, 286081) := by unfold mt_ok; decide +kernel
theorem mt_c19 : mt_ok (false, false, false, true, false, false, 130944, 2, 393088) := by unfold mt_ok; decide +kernel
theorem mt_c20 : mt_ok (false, false, false, false, false, false, 10624, 4, 534912) := by unfold mt_ok; decide +kernel
theorem mt_c21 : mt_ok (false, false, false, false, false, false, 16, 0, 16) := by unfold mt_ok; decide +kernel
theorem mt_c22 : mt_ok (false, false, false, false, false, false, 2448, 0, 2448) := by unfold mt_ok; decide +kernel
theorem mt_c23 : mt_ok (false, false, false, false, false, false, 1, 0, 1) := by unfold mt_ok; decide +kernel
theorem mt_c24 : mt_ok (false, false, false, false, false, false, 65, 2, 262209) := by unfold mt_ok; decide +kernel
theorem mt_c25 : mt_ok (false, false, false, false, false, false, 2464, 0, 2464) := by unfold mt_ok; decide +kernel
theorem mt_c26 : mt_ok (false, false, false, false, false, false, 2432, 0, 2432) := by unfold mt_ok; decide +kernel
theorem mt_c27 : mt_ok (false, false, false, false, false, false, 1, 2, 262145) := by unfold mt_ok; decide +kernel
theorem mt_all : ∀ t, t ∈ mt_L → mt_ok t := by
  unfold mt_L
  exact List.forall_mem_cons.mpr ⟨mt_c0, List.forall_mem_cons.mpr ⟨mt_c1, List.forall_mem_cons.mpr ⟨mt_c2, List.forall_mem_cons.mpr ⟨mt_c3, List.forall_mem_cons.mpr ⟨mt_c4, List.forall_mem_cons.mpr ⟨mt_c5, List.forall_mem_cons.mpr ⟨mt_c6, List.forall_mem_cons.mpr ⟨mt_c7, List.forall_mem_cons.mpr ⟨mt_c8, List.forall_mem_cons.mpr ⟨mt_c9, List.forall_mem_cons.mpr ⟨mt_c10, List.forall_mem_cons.mpr ⟨mt_c11, List.forall_mem_cons.mpr ⟨mt_c12, List.forall_mem_cons.mpr ⟨mt_c13, List.forall_mem_cons.mpr ⟨mt_c14, List.forall_mem_cons.mpr ⟨mt_c15, List.forall_mem_cons.mpr ⟨mt_c16, List.forall_mem_cons.mpr ⟨mt_c17, List.forall_mem_cons.mpr ⟨mt_c18, List.forall_mem_cons.mpr ⟨mt_c19, List.forall_mem_cons.mpr ⟨mt_c20, List.forall_mem_cons.mpr ⟨mt_c21, List.forall_mem_cons.mpr ⟨mt_c22, List.forall_mem_cons.mpr ⟨mt_c23, List.forall_mem_cons.mpr ⟨mt_c24, List.forall_mem_cons.mpr ⟨mt_c25, List.forall_mem_cons.mpr ⟨mt_c26, List.forall_mem_cons.mpr ⟨mt_c27, fun _ h => nomatch h⟩⟩⟩⟩⟩⟩⟩⟩⟩⟩⟩⟩⟩⟩⟩⟩⟩⟩⟩⟩⟩⟩⟩⟩⟩⟩⟩⟩
theorem mt_mem0 : ∀ j, j < 202 → mt_L.any (fun t => decide (t.1 = decide (nI j = 18)) && decide (t.2.1 = decide (nI j = 19)) && decide (t.2.2.1 = decide (nI j = 20)) && decide (t.2.2.2.1 = decide (nI j = 186)) && decide (t.2.2.2.2.1 = decide (nI j = 183)) && decide (t.2.2.2.2.2.1 = decide (nI j = 185)) && decide (t.2.2.2.2.2.2.1 = mt_ow (nI j)) && decide (t.2.2.2.2.2.2.2.1 = mt_ef (nI j)) && decide (t.2.2.2.2.2.2.2.2 = yf_row (nI j))) = true := by decide +kernel
theorem mt_mem (j : Nat) (hj : j < 202) : (decide (nI j = 18), decide (nI j = 19), decide (nI j = 20), decide (nI j = 186), decide (nI j = 183), decide (nI j = 185), mt_ow (nI j), mt_ef (nI j), yf_row (nI j)) ∈ mt_L := by
  obtain ⟨t, ht, e⟩ := List.any_eq_true.mp (mt_mem0 j hj)
  simp only [Bool.and_eq_true, decide_eq_true_eq] at e
  obtain ⟨⟨⟨⟨⟨⟨⟨⟨e1, e2⟩, e3⟩, e4⟩, e5⟩, e6⟩, e7⟩, e8⟩, e9⟩ := e
  rw [← e1, ← e2, ← e3, ← e4, ← e5, ← e6, ← e7, ← e8, ← e9]
  exact ht
theorem mt_eq {j : Nat} (hj : j < 202) (q1 q2 q4 q8 q16 q32 q64 : Bool) : xf_top (decide (nI j = 18)) (decide (nI j = 19)) (decide (nI j = 20)) (decide (nI j = 186)) (decide (nI j = 183)) (decide (nI j = 185)) q1 q2 q4 q8 q16 q32 q64 (mt_ef (nI j)) (mt_ow (nI j)) = yf_top (decide (nI j = 183)) (decide (nI j = 185)) q1 q2 q4 q8 q16 q32 q64 (yf_row (nI j)) :=
  mt_all _ (mt_mem j hj) q1 q2 q4 q8 q16 q32 q64
end
section
/-! the answer of afterFacts, named once for both sides -/
def mt_aft (x f : Int32) : Int32 := if x < 0 then -1 else if x ≤ 201 then yf_top (decide (x = 183)) (decide (x = 185)) (decide ((f &&& 1) = 0)) (decide ((f &&& 2) = 0)) (decide ((f &&& 4) = 0)) (decide ((f &&& 8) = 0)) (decide ((f &&& 16) = 0)) (decide ((f &&& 32) = 0)) (decide ((f &&& 64) = 0)) (yf_row x) else -1
theorem mt_afY {post : Int32 → Prop} {f_n : Int32} {a_ops : Nat → Int32} {a_known : Nat → Int32} {a_weights : Nat → Int64} {x f : Int32} (h : post (mt_aft x f)) : wpY_afterFacts post (f_n, a_ops, a_known, a_weights) x f := by
  unfold mt_aft at h
  unfold wpY_afterFacts
  exact mt_br h (fun h => h) (fun h => mt_br h (fun h => yg_row (mt_bd (P := post) h (fun h => yg_31 h) (fun h => yg_31 h))) (fun h => h))
theorem mt_cs (x : Int32) : x < 0 ∨ (¬ x < 0 ∧ 201 < x ∧ ¬ x ≤ 201) ∨ (∃ j : Nat, j < 202 ∧ x = nI j ∧ ¬ x < 0 ∧ ¬ 201 < x ∧ x ≤ 201) := by
  by_cases h : x < 0
  · exact Or.inl h
  · obtain ⟨j, hj, rfl⟩ := nI_of h
    by_cases h2 : j < 202
    · exact Or.inr (Or.inr ⟨j, h2, rfl, h, nI_nlt (a := 201) (by omega) (by omega), nI_le (b := 201) (by omega) (by omega)⟩)
    · exact Or.inr (Or.inl ⟨h, nI_lt (a := 201) (by omega) hj, nI_ge (a := 201) (by omega) hj⟩)
section
variable {post : Int32 → Prop} {f : Int32} {ao ae : Nat → Int32} {tl : Nat → Int64} {x : Int32}
theorem mt_kna (h : x < 0) (hp : post 0) : wpX_known post (f, ao, ae, tl) x := by
  unfold wpX_known
  exact br_t h hp
theorem mt_knb (h : ¬ x < 0) (h2 : 201 < x) (hp : post 0) : wpX_known post (f, ao, ae, tl) x := by
  unfold wpX_known
  exact br_f h (br_t h2 hp)
theorem mt_kn1 (h : ¬ x < 0) (h2 : ¬ 201 < x) (hp : post 1) : wpX_known post (f, ao, ae, tl) x := by
  unfold wpX_known
  exact br_f h (br_f h2 hp)
end
theorem mt_10 : ¬ (1 : Int32) = 0 := by decide
theorem mt_afX {post : Int32 → Prop} {fn : Int32} {ao ae : Nat → Int32} {tl : Nat → Int64} {x f : Int32} (hT : mt_Tab 202 ao ae) (h : post (mt_aft x f)) : wpX_afterFacts post (fn, ao, ae, tl) x f := by
  unfold wpX_afterFacts
  unfold mt_aft at h
  rcases mt_cs x with hx | ⟨h0, h1, h2⟩ | ⟨j, hj, rfl, h0, h1, h2⟩
  · rw [if_pos hx] at h
    exact mt_kna hx (br_t rfl h)
  · rw [if_neg h0, if_neg h2] at h
    exact mt_knb h0 h1 (br_t rfl h)
  · rw [if_neg h0, if_pos h2, ← mt_eq hj] at h
    have hi : vp_in (nI j) 202 := vp_in_nI hj (by omega)
    have e1 : ao (nI j).toNatClampNeg = mt_ow (nI j) := by rw [nI_clamp (by omega)]; exact (hT j hj).1
    have e2 : ae (nI j).toNatClampNeg = mt_ef (nI j) := by rw [nI_clamp (by omega)]; exact (hT j hj).2
    rw [← e2] at h
    exact mt_kn1 h0 h1 (br_f mt_10 ⟨hi, nm_r e1 (mt_bd (P := post) h (fun h => xg_29 hi h) (fun h => xg_29 hi h))⟩)
/-! the two casts -/
theorem mt_sh (x : Int32) : x.toInt16.toInt32 &&& 65535 = x &&& 65535 := by
  apply Int32.toBitVec_inj.mp
  rw [Int32.toBitVec_and, Int32.toBitVec_and, Int16.toBitVec_toInt32, Int32.toBitVec_toInt16]
  apply BitVec.eq_of_getLsbD_eq
  intro i hi
  rw [BitVec.getLsbD_and, BitVec.getLsbD_and]
  have hm : ∀ i < 32, 16 ≤ i → (65535 : Int32).toBitVec.getLsbD i = false := by decide
  rcases Nat.lt_or_ge i 16 with z | z
  · rw [BitVec.getLsbD_signExtend, BitVec.getLsbD_signExtend, if_pos z, if_pos hi]
    simp only [z, hi, decide_true, Bool.true_and]
  · rw [hm i hi z]; simp
theorem mt_shm (x m : Int32) (hm : (65535 : Int32) &&& m = m) : x.toInt16.toInt32 &&& m = x &&& m := by
  rw [← hm, ← Int32.and_assoc, ← Int32.and_assoc, mt_sh]
theorem mt_afs (x f : Int32) : mt_aft x f.toInt16.toInt32 = mt_aft x f := by
  unfold mt_aft
  rw [mt_shm f 1 (by decide), mt_shm f 2 (by decide), mt_shm f 4 (by decide), mt_shm f 8 (by decide), mt_shm f 16 (by decide), mt_shm f 32 (by decide), mt_shm f 64 (by decide)]
theorem mt_ch {j : Nat} (hj : j < 202) : ((nI j).toUInt32 % 65536).toInt32 = nI j := by
  rw [pk_char, pk_tn (by omega), Nat.mod_eq_of_lt (by omega)]
/-! one bit, asked in two ways -/
theorem mt_b1 : ∀ i, i < 32 → bt 1 i = decide (i = 0) := by decide +kernel
theorem mt_bitR (m : Int32) {k : Nat} (hk : k < 32) : ((m >>> (nI k &&& 31)) &&& 1) = 0 ↔ bt m k = false := by
  constructor
  · intro h
    have e : bt ((m >>> (nI k &&& 31)) &&& 1) 0 = false := by rw [h]; exact b_0 0
    rw [b_and, b_sshr k hk m (by omega), Nat.add_zero, if_pos hk, mt_b1 0 (by omega)] at e
    simpa using e
  · intro h
    apply b_ext
    intro i hi
    rw [b_and, mt_b1 i hi, b_0]
    by_cases hi0 : i = 0
    · subst hi0
      rw [b_sshr k hk m (by omega), Nat.add_zero, if_pos hk, h]
      rfl
    · rw [decide_eq_false hi0, Bool.and_false]
theorem mt_bitL (m : Int32) {k : Nat} (hk : k < 32) : (m &&& ((1 : Int32) <<< (nI k &&& 31))) = 0 ↔ bt m k = false := by
  constructor
  · intro h
    have e : bt (m &&& ((1 : Int32) <<< (nI k &&& 31))) k = false := by rw [h]; exact b_0 k
    rw [b_and, b_shl k hk 1 hk, Nat.sub_self, mt_b1 0 (by omega)] at e
    simpa using e
  · intro h
    apply b_ext
    intro i hi
    rw [b_and, b_shl k hk 1 hi, b_0]
    by_cases hik : i = k
    · subst hik
      rw [h, Bool.false_and]
    · by_cases hle : k ≤ i
      · rw [mt_b1 (i - k) (by omega), decide_eq_false (p := i - k = 0) (by omega), Bool.and_false, Bool.and_false]
      · rw [decide_eq_false hle, Bool.false_and, Bool.and_false]
theorem mt_bit (m : Int32) {k : Nat} (hk : k < 32) : (m &&& ((1 : Int32) <<< (nI k &&& 31))) = 0 ↔ ((m >>> (nI k &&& 31)) &&& 1) = 0 := (mt_bitL m hk).trans (mt_bitR m hk).symm
/-! the sums -/
def mt_sm (ops kn : Nat → Int32) (we : Nat → Int64) (k : Int32) : Nat → Int64
  | 0 => 0
  | i + 1 => if (((mt_aft (ops i) (kn i)) >>> (k &&& 31)) &&& 1) = 0 then mt_sm ops kn we k i else mt_sm ops kn we k i + we i
theorem mt_smx {ops kn ops' kn' : Nat → Int32} {we we' : Nat → Int64} {k : Int32} : ∀ n : Nat, (∀ j, j < n → ops' j = ops j ∧ kn' j = kn j ∧ we' j = we j) → mt_sm ops' kn' we' k n = mt_sm ops kn we k n := by
  intro n
  induction n with
  | zero => intro _; rfl
  | succ n ih =>
    intro h
    obtain ⟨h1, h2, h3⟩ := h n (by omega)
    rw [mt_sm, mt_sm, h1, h2, h3, ih (fun j hj => h j (by omega))]
theorem mt_tY {post : Int64 → Prop} {ops kn : Nat → Int32} {we : Nat → Int64} {k : Int32} {n : Nat} (hn : n ≤ 8) (hp : post (mt_sm ops kn we k n)) : ∀ d i : Nat, i + d = n → wY_tally_17 post k (nI n) ops kn we (d + 1) (mt_sm ops kn we k i) (nI i) := by
  intro d
  induction d with
  | zero =>
    intro i hi
    obtain rfl : i = n := by omega
    rw [wY_tally_17]
    exact br_t (nI_le (by omega) (by omega)) hp
  | succ d ih =>
    intro i hi
    have hi8 : vp_in (nI i) 8 := vp_in_nI (by omega) (by omega)
    have H := ih (i + 1) (by omega)
    rw [mt_sm] at H
    rw [wY_tally_17]
    refine br_f (nI_ge (by omega) (by omega)) ⟨hi8, hi8, mt_afY ?_⟩
    rw [nI_clamp (by omega)]
    by_cases z : (((mt_aft (ops i) (kn i)) >>> (k &&& 31)) &&& 1) = 0
    · rw [if_pos z] at H
      exact br_t z (nm_r (nI_1 i) H)
    · rw [if_neg z] at H
      exact br_f z ⟨hi8, nm_e (nm_r (nI_1 i) H)⟩
theorem mt_nX {post : Int32 → SX → Prop} {w : Int64} {m fn : Int32} {ao ae : Nat → Int32} {t0 : Nat → Int64} (hp : ∀ tl : Nat → Int64, (∀ k, k < 17 → tl k = if (m &&& ((1 : Int32) <<< (nI k &&& 31))) = 0 then t0 k else t0 k + w) → post m (fn, ao, ae, tl)) : ∀ d i : Nat, i + d = 17 → ∀ tl : Nat → Int64, (∀ k, k < i → tl k = if (m &&& ((1 : Int32) <<< (nI k &&& 31))) = 0 then t0 k else t0 k + w) → (∀ k, i ≤ k → tl k = t0 k) → wX_note_50 post w m fn (d + 1) (nI i) ao ae tl := by
  intro d
  induction d with
  | zero =>
    intro i hi tl h1 h2
    obtain rfl : i = 17 := by omega
    rw [wX_note_50]
    exact br_t (nI_le (a := 17) (b := 17) (by omega) (by omega)) (hp tl h1)
  | succ d ih =>
    intro i hi tl h1 h2
    have hi17 : vp_in (nI i) 17 := vp_in_nI (by omega) (by omega)
    rw [wX_note_50]
    refine br_f (nI_ge (b := 17) (by omega) (by omega)) ?_
    by_cases z : (m &&& ((1 : Int32) <<< (nI i &&& 31))) = 0
    · refine br_t z (nm_r (nI_1 i) (ih (i + 1) (by omega) tl ?_ (fun k hk => h2 k (by omega))))
      intro k hk
      by_cases hki : k = i
      · subst hki
        rw [if_pos z]
        exact h2 k (by omega)
      · exact h1 k (by omega)
    · refine br_f z ⟨hi17, hi17, nm_e (nm_r (nI_1 i) (ih (i + 1) (by omega) _ ?_ ?_))⟩
      · intro k hk
        rw [nI_clamp (by omega)]
        by_cases hki : k = i
        · subst hki
          rw [if_neg z, pk_uLs, h2 k (by omega)]
        · rw [pk_uLn hki]
          exact h1 k (by omega)
      · intro k hk
        rw [nI_clamp (by omega), pk_uLn (by omega)]
        exact h2 k (by omega)
end
section
/-- one count of notes; the two tables as the constructor lays them; each tally is the sum over the notes that the reference keeps -/
def i_Rel (k : Nat) (u : SX) (v : SY) : Prop := ∃ (n : Nat) (ao ae : Nat → Int32) (tl : Nat → Int64) (ops kn : Nat → Int32) (we : Nat → Int64), u = (nI n, ao, ae, tl) ∧ v = (nI n, ops, kn, we) ∧ n ≤ 8 ∧ mt_Tab 202 ao ae ∧ ∀ q, q < 17 → tl q = mt_sm ops kn we (nI q) n
theorem i_up {k : Nat} {u : SX} {v : SY} (h : i_Rel k u v) : i_Rel (k + 5) u v := h
theorem i_vc0 : wpX_init (fun u => wpY_init (fun v => i_Rel 0 u v)) :=
  mt_init fun ao ae hT => (⟨0, ao, ae, _, _, _, _, rfl, rfl, by omega, hT, fun _ _ => rfl⟩ : i_Rel 0 (0, ao, ae, fun _ => 0) (0, (fun _ => 0), (fun _ => 0), (fun _ => 0)))
theorem i_vc_runtimeMask {k : Nat} {u : SX} {v : SY} (I : i_Rel k u v) (hk : k + 5 ≤ 2560) (v1 : Int32) : wpX_runtimeMask (fun r => wpY_runtimeMask (fun r' => r' = r ∧ i_Rel (k + 5) u v) v v1) u v1 := by
  have I' := i_up I
  obtain ⟨n, ao, ae, tl, ops, kn, we, rfl, rfl, hn, hT, hS⟩ := I
  unfold wpX_runtimeMask wpY_runtimeMask
  dsimp only
  rcases mt_cs v1 with hx | ⟨h0, h1, h2⟩ | ⟨j, hj, rfl, h0, h1, h2⟩
  · exact mt_kna hx (br_t rfl (br_t hx ⟨rfl, I'⟩))
  · exact mt_knb h0 h1 (br_t rfl (br_f h0 (br_f h2 ⟨rfl, I'⟩)))
  · refine mt_kn1 h0 h1 (br_f mt_10 ⟨vp_in_nI hj (by omega), br_f h0 (br_t h2 (yg_row ⟨?_, I'⟩))⟩)
    rw [nI_clamp (by omega), (hT j hj).1]
    exact mt_t127 j hj
theorem i_vc_linkMask {k : Nat} {u : SX} {v : SY} (I : i_Rel k u v) (hk : k + 5 ≤ 2560) (v1 : Int32) : wpX_linkMask (fun r => wpY_linkMask (fun r' => r' = r ∧ i_Rel (k + 5) u v) v v1) u v1 := by
  have I' := i_up I
  obtain ⟨n, ao, ae, tl, ops, kn, we, rfl, rfl, hn, hT, hS⟩ := I
  unfold wpX_linkMask wpY_linkMask
  dsimp only
  rcases mt_cs v1 with hx | ⟨h0, h1, h2⟩ | ⟨j, hj, rfl, h0, h1, h2⟩
  · exact mt_kna hx (br_t rfl (br_t hx ⟨rfl, I'⟩))
  · exact mt_knb h0 h1 (br_t rfl (br_f h0 (br_f h2 ⟨rfl, I'⟩)))
  · have hi : vp_in (nI j) 202 := vp_in_nI hj (by omega)
    have e : ae (nI j).toNatClampNeg = mt_ef (nI j) := by rw [nI_clamp (by omega)]; exact (hT j hj).2
    have e1 : ao (nI j).toNatClampNeg = mt_ow (nI j) := by rw [nI_clamp (by omega)]; exact (hT j hj).1
    refine mt_kn1 h0 h1 (br_f mt_10 ⟨hi, ?_⟩)
    rw [e, e1]
    by_cases z : (mt_ef (nI j) &&& 4) = 0
    · exact br_t z ⟨hi, br_f h0 (br_t h2 (yg_row (br_t ((mt_tI j hj).mpr z) ⟨mt_tL j hj, I'⟩)))⟩
    · exact br_f z (br_f h0 (br_t h2 (yg_row (br_f (fun y => z ((mt_tI j hj).mp y)) ⟨rfl, I'⟩))))
theorem i_vc_afterFacts {k : Nat} {u : SX} {v : SY} (I : i_Rel k u v) (hk : k + 5 ≤ 2560) (v1 : Int32) (v2 : Int32) : wpX_afterFacts (fun r => wpY_afterFacts (fun r' => r' = r ∧ i_Rel (k + 5) u v) v v1 v2) u v1 v2 := by
  have I' := i_up I
  obtain ⟨n, ao, ae, tl, ops, kn, we, rfl, rfl, hn, hT, hS⟩ := I
  exact mt_afX hT (mt_afY ⟨rfl, I'⟩)
theorem i_vc_removable {k : Nat} {u : SX} {v : SY} (I : i_Rel k u v) (hk : k + 5 ≤ 2560) (v1 : Int32) (v2 : Int32) : wpX_removable (fun r => wpY_removable (fun r' => r' = r ∧ i_Rel (k + 5) u v) v v1 v2) u v1 v2 := by
  have I' := i_up I
  obtain ⟨n, ao, ae, tl, ops, kn, we, rfl, rfl, hn, hT, hS⟩ := I
  unfold wpX_removable wpY_removable
  dsimp only
  rcases mt_cs v1 with hx | ⟨h0, h1, h2⟩ | ⟨j, hj, rfl, h0, h1, h2⟩
  · exact mt_kna hx (br_t rfl (br_t hx ⟨rfl, I'⟩))
  · exact mt_knb h0 h1 (br_t rfl (br_f h0 (br_f h2 ⟨rfl, I'⟩)))
  · have hi : vp_in (nI j) 202 := vp_in_nI hj (by omega)
    have e : ae (nI j).toNatClampNeg = mt_ef (nI j) := by rw [nI_clamp (by omega)]; exact (hT j hj).2
    refine mt_kn1 h0 h1 (br_f mt_10 ⟨hi, ?_⟩)
    rw [e, ← mt_t3 j hj]
    by_cases z : ((yf_row (nI j) >>> ((17 : Int32) &&& 31)) &&& 3) = 0
    · refine br_t z (mt_afX hT ?_)
      by_cases y : mt_aft (nI j) v2 = 0
      · exact br_t y (br_f h0 (br_t h2 (yg_row (br_t z (mt_afY (br_t y ⟨rfl, I'⟩))))))
      · exact br_f y (br_f h0 (br_t h2 (yg_row (br_t z (mt_afY (br_f y ⟨rfl, I'⟩))))))
    · exact br_f z (br_f h0 (br_t h2 (yg_row (br_f z ⟨rfl, I'⟩))))
/-! maySwap, both opcodes known: one answer, named once -/
def mt_swv (A B a b : Int32) : Int32 := if a = 0 then (if b = 0 then 1 else if A = 0 then (if 128 ≤ b then 0 else 1) else 0) else (if b = 0 then (if B = 0 then (if 128 ≤ a then 0 else 1) else 0) else 0)
def mt_sw (A B a b : Int32) : Int32 := if A = 2 then 0 else if B = 2 then 0 else mt_swv A B a b
def mt_e3 (j : Nat) : Int32 := (yf_row (nI j) >>> ((17 : Int32) &&& 31)) &&& 3
theorem mt_swX {post : Int32 → Prop} {A B a b fn : Int32} {ao ae : Nat → Int32} {tl : Nat → Int64} (h : post (mt_swv A B a b)) : ((a = 0 → (((b = 0 → (post 1)) ∧ (¬ b = 0 → (wX_maySwap_81 post A B a b fn ao ae tl))))) ∧ (¬ a = 0 → (wX_maySwap_81 post A B a b fn ao ae tl))) := by
  unfold wX_maySwap_81 wX_maySwap_93
  unfold mt_swv at h
  by_cases ha : a = 0
  · rw [if_pos ha] at h
    exact br_t ha (mt_br (P := post) h (fun h => h) (fun h => br_t ha (br_t ha (mt_br (P := post) h (fun h => mt_br (P := post) h (fun h => h) (fun h => h)) (fun h => h)))))
  · rw [if_neg ha] at h
    exact br_f ha (br_f ha (mt_br (P := post) h (fun h => br_f ha (mt_br (P := post) h (fun h => mt_br (P := post) h (fun h => h) (fun h => h)) (fun h => h))) (fun h => h)))
theorem mt_kX {post : Int32 → Prop} {fn : Int32} {ao ae : Nat → Int32} {tl : Nat → Int64} {j i : Nat} {v2 v4 : Int32} (hT : mt_Tab 202 ao ae) (hj : j < 202) (hi : i < 202) (h0 : ¬ nI j < 0) (h1 : ¬ 201 < nI j) (g0 : ¬ nI i < 0) (g1 : ¬ 201 < nI i) (h : post (mt_sw (mt_e3 j) (mt_e3 i) (mt_aft (nI j) v2) (mt_aft (nI i) v4))) : wpX_maySwap post (fn, ao, ae, tl) (nI j) v2 (nI i) v4 := by
  have ej : ae (nI j).toNatClampNeg &&& 3 = mt_e3 j := by unfold mt_e3; rw [nI_clamp (by omega), mt_t3 j hj, (hT j hj).2]
  have ei : ae (nI i).toNatClampNeg &&& 3 = mt_e3 i := by unfold mt_e3; rw [nI_clamp (by omega), mt_t3 i hi, (hT i hi).2]
  unfold mt_sw at h
  unfold wpX_maySwap
  exact mt_kn1 h0 h1 (br_f mt_10 (mt_kn1 g0 g1 (br_f mt_10 ⟨vp_in_nI hj (by omega), nm_r ej ⟨vp_in_nI hi (by omega), nm_r ei (mt_br (P := post) h (fun h => h) (fun h => mt_br (P := post) h (fun h => h) (fun h => mt_afX hT (mt_afX hT (mt_swX h)))))⟩⟩)))
theorem mt_kY {post : Int32 → Prop} {fn : Int32} {ops kn : Nat → Int32} {we : Nat → Int64} {j i : Nat} {v2 v4 : Int32} (h0 : ¬ nI j < 0) (h1 : ¬ 201 < nI j) (g0 : ¬ nI i < 0) (g2 : nI i ≤ 201) (h : post (mt_sw (mt_e3 j) (mt_e3 i) (mt_aft (nI j) v2) (mt_aft (nI i) v4))) : wpY_maySwap post (fn, ops, kn, we) (nI j) v2 (nI i) v4 := by
  have ej : (yf_row (nI j) >>> ((17 : Int32) &&& 31)) &&& 3 = mt_e3 j := rfl
  have ei : (yf_row (nI i) >>> ((17 : Int32) &&& 31)) &&& 3 = mt_e3 i := rfl
  unfold mt_sw at h
  unfold wpY_maySwap
  refine br_f h0 (br_f h1 (br_f g0 (br_t g2 (yg_row (nm_r ej (yg_row (nm_r ei (mt_br (P := post) h (fun h => h) (fun h => mt_br (P := post) h (fun h => h) (fun h => mt_afY (mt_afY ?_)))))))))))
  unfold mt_swv at h
  exact mt_br (P := post) h (fun h => mt_br (P := post) h (fun h => h) (fun h => mt_br (P := post) h (fun h => mt_br (P := post) h (fun h => h) (fun h => h)) (fun h => h))) (fun h => mt_br (P := post) h (fun h => mt_br (P := post) h (fun h => mt_br (P := post) h (fun h => h) (fun h => h)) (fun h => h)) (fun h => h))
theorem i_vc_maySwap {k : Nat} {u : SX} {v : SY} (I : i_Rel k u v) (hk : k + 5 ≤ 2560) (v1 : Int32) (v2 : Int32) (v3 : Int32) (v4 : Int32) : wpX_maySwap (fun r => wpY_maySwap (fun r' => r' = r ∧ i_Rel (k + 5) u v) v v1 v2 v3 v4) u v1 v2 v3 v4 := by
  have I' := i_up I
  obtain ⟨n, ao, ae, tl, ops, kn, we, rfl, rfl, hn, hT, hS⟩ := I
  rcases mt_cs v1 with hx | ⟨h0, h1, h2⟩ | ⟨j, hj, rfl, h0, h1, h2⟩
  · unfold wpX_maySwap wpY_maySwap
    exact mt_kna hx (br_t rfl (br_t hx ⟨rfl, I'⟩))
  · unfold wpX_maySwap wpY_maySwap
    exact mt_knb h0 h1 (br_t rfl (br_f h0 (br_t h1 ⟨rfl, I'⟩)))
  · rcases mt_cs v3 with hx | ⟨g0, g1, g2⟩ | ⟨i, hi, rfl, g0, g1, g2⟩
    · unfold wpX_maySwap wpY_maySwap
      exact mt_kn1 h0 h1 (br_f mt_10 (mt_kna hx (br_t rfl (br_f h0 (br_f h1 (br_t hx ⟨rfl, I'⟩))))))
    · unfold wpX_maySwap wpY_maySwap
      exact mt_kn1 h0 h1 (br_f mt_10 (mt_knb g0 g1 (br_t rfl (br_f h0 (br_f h1 (br_f g0 (br_f g2 ⟨rfl, I'⟩)))))))
    · exact mt_kX hT hj hi h0 h1 g0 g1 (mt_kY h0 h1 g0 g2 ⟨rfl, I'⟩)
theorem mt_rel {k n : Nat} {ao ae ops kn : Nat → Int32} {tl tl' : Nat → Int64} {we : Nat → Int64} {w : Int64} {j : Nat} {f : Int32} (hn : n < 8) (hj : j < 202) (hT : mt_Tab 202 ao ae) (hS : ∀ q, q < 17 → tl q = mt_sm ops kn we (nI q) n) (h : ∀ q, q < 17 → tl' q = if (mt_aft (nI j) f &&& ((1 : Int32) <<< (nI q &&& 31))) = 0 then tl q else tl q + w) : i_Rel k (nI (n + 1), ao, ae, tl') (nI (n + 1), upd ops n (vp_nar .char ((nI j).toUInt32 % 65536).toInt32), upd kn n (vp_nar .short f.toInt16.toInt32), vp_updL we n w) := by
  refine ⟨n + 1, ao, ae, tl', _, _, _, rfl, rfl, by omega, hT, ?_⟩
  intro q hq
  have e : mt_aft (upd ops n (vp_nar .char ((nI j).toUInt32 % 65536).toInt32) n) (upd kn n (vp_nar .short f.toInt16.toInt32) n) = mt_aft (nI j) f := by
    rw [pk_us, pk_us, pk_vc, pk_vs, mt_ch hj, mt_afs]
  rw [mt_sm, e, h q hq, pk_uLs, mt_smx (ops := ops) (kn := kn) (we := we) n (fun i hi => ⟨pk_un (by omega), pk_un (by omega), pk_uLn (by omega)⟩), hS q hq]
  by_cases z : (mt_aft (nI j) f &&& ((1 : Int32) <<< (nI q &&& 31))) = 0
  · rw [if_pos z, if_pos ((mt_bit _ (by omega)).mp z)]
  · rw [if_neg z, if_neg (fun y => z ((mt_bit _ (by omega)).mpr y))]
theorem i_vc_note {k : Nat} {u : SX} {v : SY} (I : i_Rel k u v) (hk : k + 5 ≤ 2560) (v1 : Int32) (v2 : Int32) (a2 : Int64) : wpX_note (fun r u' => wpY_note (fun r' v' => r' = r ∧ i_Rel (k + 5) u' v') v v1 v2 a2) u v1 v2 a2 := by
  have I' := i_up I
  obtain ⟨n, ao, ae, tl, ops, kn, we, rfl, rfl, hn, hT, hS⟩ := I
  unfold wpX_note wpY_note
  dsimp only
  rcases mt_cs v1 with hx | ⟨h0, h1, h2⟩ | ⟨j, hj, rfl, h0, h1, h2⟩
  · exact mt_kna hx (br_t rfl (br_t hx ⟨rfl, I'⟩))
  · exact mt_knb h0 h1 (br_t rfl (br_f h0 (br_f h2 ⟨rfl, I'⟩)))
  · refine mt_kn1 h0 h1 (br_f mt_10 (mt_afX hT ?_))
    by_cases z : mt_aft (nI j) v2 = 0
    · exact br_t z (br_f h0 (br_t h2 (mt_afY (br_t z ⟨rfl, I'⟩))))
    · refine br_f z ?_
      by_cases h8 : n < 8
      · have l8 : nI n < 8 := nI_lt (b := 8) h8 (by omega)
        have i8 : vp_in (nI n) 8 := vp_in_nI h8 (by omega)
        refine br_t l8 (nm_r (nI_1 n) ⟨18, ?_⟩)
        refine mt_nX (t0 := tl) ?_ 17 0 rfl tl (fun q hq => absurd hq (Nat.not_lt_zero q)) (fun q _ => rfl)
        intro tl' ht
        refine br_f h0 (br_t h2 (mt_afY (br_f z (br_t l8 ⟨i8, nm_e ⟨i8, nm_e (nm_r (nI_1 n) ⟨i8, nm_e ⟨rfl, ?_⟩⟩)⟩⟩))))
        rw [nI_clamp (by omega)]
        exact mt_rel h8 hj hT hS ht
      · have l8 : ¬ nI n < 8 := nI_nlt (b := 8) (by omega) (by omega)
        exact br_f l8 (br_f h0 (br_t h2 (mt_afY (br_f z (br_f l8 ⟨rfl, I'⟩)))))
theorem i_vc_tally {k : Nat} {u : SX} {v : SY} (I : i_Rel k u v) (hk : k + 5 ≤ 2560) (v1 : Int32) : wpX_tally (fun r => wpY_tally (fun r' => r' = r ∧ i_Rel (k + 5) u v) v v1) u v1 := by
  have I' := i_up I
  obtain ⟨n, ao, ae, tl, ops, kn, we, rfl, rfl, hn, hT, hS⟩ := I
  unfold wpX_tally wpY_tally
  dsimp only
  by_cases h0 : v1 < 0
  · exact br_t h0 (br_t h0 ⟨rfl, I'⟩)
  · refine br_f h0 ?_
    obtain ⟨j, hj, rfl⟩ := nI_of h0
    by_cases h16 : j < 17
    · have l : nI j ≤ 16 := nI_le (b := 16) (by omega) (by omega)
      refine br_t l ⟨vp_in_nI h16 (by omega), br_f h0 (br_t l ⟨n + 1, ?_⟩)⟩
      refine mt_tY hn ?_ n 0 (Nat.zero_add n)
      refine ⟨?_, I'⟩
      rw [nI_clamp (by omega)]
      exact (hS j h16).symm
    · have l : ¬ nI j ≤ 16 := nI_ge (a := 16) (by omega) (by omega)
      exact br_f l (br_f h0 (br_f l ⟨rfl, I'⟩))
end
