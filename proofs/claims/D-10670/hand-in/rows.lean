section
/-! numbers below the prime 12289 -/
theorem zq_mb {a b : Nat} (ha : a < 12289) (hb : b < 12289) : a * b < 2 ^ 31 :=
  Nat.lt_of_le_of_lt (Nat.mul_le_mul (show a ≤ 12288 by omega) (show b ≤ 12288 by omega)) (by decide)
theorem zq_ml (a : Nat) : a % 12289 < 12289 := Nat.mod_lt _ (by decide)
theorem zq_rem {x : Int32} (a : Nat) (ha : a < 2 ^ 31) (hx : x = nI a) : x - x / 12289 * 12289 = nI (a % 12289) := by
  subst hx
  exact pk_rem (d := 12289) ha (by decide) (by decide)
/-- square and multiply, as it is done there -/
def zq_pw : Nat → Nat → Nat → Nat → Nat
  | 0, r, _, _ => r
  | n + 1, r, s, e => if e = 0 then r else zq_pw n (if e % 2 = 1 then r * s % 12289 else r) (s * s % 12289) (e / 2)
theorem zq_pw_lt : ∀ (n r s e : Nat), r < 12289 → zq_pw n r s e < 12289 := by
  intro n
  induction n with
  | zero => intro r s e h; exact h
  | succ n ih =>
    intro r s e h
    unfold zq_pw
    by_cases h0 : e = 0
    · rw [if_pos h0]; exact h
    · rw [if_neg h0]
      refine ih _ _ _ ?_
      by_cases h1 : e % 2 = 1
      · rw [if_pos h1]; exact zq_ml _
      · rw [if_neg h1]; exact h
theorem zq_pw_eq : ∀ (n r s e : Nat), e < 2 ^ n → zq_pw n r s e % 12289 = r * s ^ e % 12289 := by
  intro n
  induction n with
  | zero =>
    intro r s e h
    have h0 : e = 0 := by omega
    rw [h0, Nat.pow_zero, Nat.mul_one]
    rfl
  | succ n ih =>
    intro r s e h
    unfold zq_pw
    by_cases h0 : e = 0
    · rw [if_pos h0, h0, Nat.pow_zero, Nat.mul_one]
    · rw [if_neg h0, ih _ _ _ (by rw [Nat.pow_succ] at h; omega)]
      have A : (s * s % 12289) ^ (e / 2) % 12289 = s ^ (2 * (e / 2)) % 12289 := by
        rw [← Nat.pow_mod, ← Nat.pow_two, ← Nat.pow_mul]
      by_cases h1 : e % 2 = 1
      · rw [if_pos h1, Nat.mul_mod, A, Nat.mod_mod, ← Nat.mul_mod]
        have E : s ^ e = s ^ (2 * (e / 2)) * s := by
          rw [← Nat.pow_succ]
          exact congrArg (fun t => s ^ t) (by omega)
        rw [E, Nat.mul_assoc, Nat.mul_comm s]
      · rw [if_neg h1, Nat.mul_mod, A, ← Nat.mul_mod]
        have E : s ^ e = s ^ (2 * (e / 2)) := congrArg (fun t => s ^ t) (by omega)
        rw [E]
/-- Fermat at 12289, every case looked at -/
def zq_s (x : Nat) : Nat := x ^ 2 % 12289
theorem zq_s_eq (u m : Nat) : zq_s (u ^ m % 12289) = u ^ (m * 2) % 12289 := by
  unfold zq_s
  rw [← Nat.pow_mod, ← Nat.pow_mul]
theorem zq_k0 : ∀ a, a < 96 → ∀ b, b < 128 → zq_s (zq_s (zq_s (zq_s (zq_s (zq_s (zq_s (zq_s (zq_s (zq_s (zq_s (zq_s ((128 * a + b + 1) ^ 3 % 12289)))))))))))) = 1 := by decide +kernel
theorem zq_fer {u : Nat} (h0 : 0 < u) (h : u < 12289) : u ^ 12288 % 12289 = 1 := by
  have k := zq_k0 ((u - 1) / 128) (by omega) ((u - 1) % 128) (by omega)
  rw [show 128 * ((u - 1) / 128) + (u - 1) % 128 + 1 = u by omega] at k
  rw [zq_s_eq, zq_s_eq, zq_s_eq, zq_s_eq, zq_s_eq, zq_s_eq, zq_s_eq, zq_s_eq, zq_s_eq, zq_s_eq, zq_s_eq, zq_s_eq] at k
  simp only [Nat.reduceMul] at k
  exact k
theorem zq_inv {u : Nat} (h0 : 0 < u) (h : u < 12289) : u * zq_pw 14 1 u 12287 % 12289 = 1 := by
  have e := zq_pw_eq 14 1 u 12287 (by decide)
  rw [Nat.mul_mod, e, ← Nat.mul_mod, Nat.one_mul, Nat.mul_comm, ← Nat.pow_succ]
  exact zq_fer h0 h
/-! remainders of any int -/
def zq_md (x : Int32) : Nat := (x.toInt % 12289).toNat
theorem zq_md_lt (x : Int32) : zq_md x < 12289 := by
  unfold zq_md
  omega
theorem zq_md_eq (x : Int32) : ((zq_md x : Nat) : Int) = x.toInt % 12289 := by
  unfold zq_md
  omega
theorem zq_tm (v : Int) (m : Nat) (hm : (m : Int) = v % 12289) : (0 ≤ v.tmod 12289 → v.tmod 12289 = m) ∧ (¬ 0 ≤ v.tmod 12289 → v.tmod 12289 + 12289 = m) := by
  have h1 := Int.mul_tdiv_add_tmod v 12289
  have h2 := Int.tmod_lt_of_pos v (b := 12289) (by decide)
  have h3 := Int.lt_tmod_of_pos v (b := 12289) (by decide)
  generalize v.tmod 12289 = t at *
  generalize v.tdiv 12289 = q at *
  constructor <;> intro h <;> omega
theorem zq_rem32 (x y : Int32) : (x - (x / y) * y).toInt = x.toInt.tmod y.toInt := by
  have a := (x % y).toInt_lt
  have b := (x % y).le_toInt
  rw [Int32.toInt_mod] at a b
  rw [Int32.toInt_sub, Int32.toInt_mul, Int32.toInt_div, Int.bmod_mul_bmod, Int.sub_bmod_bmod, Int.mul_comm, ← Int.tmod_def]
  exact Jvm.Kit.bmod32 b a
theorem zq_normal {post : Int32 → Prop} (x : Int32) (H : post (nI (zq_md x))) : wpX_normal post () x := by
  have e : (x - x / 12289 * 12289).toInt = x.toInt.tmod 12289 := zq_rem32 x 12289
  have t := zq_tm x.toInt (zq_md x) (zq_md_eq x)
  have l := zq_md_lt x
  have b1 := Int.tmod_lt_of_pos x.toInt (b := 12289) (by decide)
  have b2 := Int.lt_tmod_of_pos x.toInt (b := 12289) (by decide)
  have c : (12289 : Int32).toInt = 12289 := by decide
  refine ⟨by decide, nm_e ?_⟩
  by_cases h : 0 ≤ x.toInt.tmod 12289
  · have q : x - x / 12289 * 12289 = nI (zq_md x) := Int32.toInt_inj.mp (by rw [e, nI_toInt (by omega)]; exact t.1 h)
    exact br_t (Jvm.Kit.i32_nonneg.mpr (by rw [e]; exact h)) (by rw [q]; exact H)
  · have q : x - x / 12289 * 12289 + 12289 = nI (zq_md x) := Int32.toInt_inj.mp (by rw [Jvm.Kit.i32_add (by rw [e, c]; omega) (by rw [e, c]; omega), e, c, nI_toInt (by omega)]; exact t.2 h)
    exact br_f (fun z => h (by rw [← e]; exact Jvm.Kit.i32_nonneg.mp z)) (by rw [q]; exact H)
theorem zq_mod {post : Int32 → Prop} (v : Int64) (m : Nat) (hm : (m : Int) = v.toInt % 12289) (H : post (nI m)) : wpL_mod post () v := by
  have e : (v - v / 12289 * 12289).toInt = v.toInt.tmod 12289 := Jvm.Kit.i64_rem v 12289
  have t := zq_tm v.toInt m hm
  have b1 := Int.tmod_lt_of_pos v.toInt (b := 12289) (by decide)
  have b2 := Int.lt_tmod_of_pos v.toInt (b := 12289) (by decide)
  have c : (12289 : Int64).toInt = 12289 := by decide
  refine ⟨by decide, nm_e ?_⟩
  by_cases h : 0 ≤ v.toInt.tmod 12289
  · have q : v - v / 12289 * 12289 = lN m := Int64.toInt_inj.mp (by rw [e, pk_lT (by omega)]; exact t.1 h)
    exact br_t (Jvm.Kit.i64_nonneg.mpr (by rw [e]; exact h)) (by rw [q, lN_i]; exact H)
  · have q : v - v / 12289 * 12289 + 12289 = lN m := Int64.toInt_inj.mp (by rw [Jvm.Kit.i64_add (by rw [e, c]; omega) (by rw [e, c]; omega), e, c, pk_lT (by omega)]; exact t.2 h)
    exact br_f (fun z => h (by rw [← e]; exact Jvm.Kit.i64_nonneg.mp z)) (by rw [q, lN_i]; exact H)
theorem zq_modx {post : Int32 → Prop} (x : Int32) (H : post (nI (zq_md x))) : wpL_mod post () x.toInt64 :=
  zq_mod x.toInt64 (zq_md x) (by rw [Jvm.Kit.i64_of_i32]; exact zq_md_eq x) H
theorem zq_modm {post : Int32 → Prop} (a b : Nat) (ha : a < 12289) (hb : b < 12289) (H : post (nI (a * b % 12289))) : wpL_mod post () ((nI a).toInt64 * (nI b).toInt64) := by
  rw [nI_l (show a < 2 ^ 31 by omega), nI_l (show b < 2 ^ 31 by omega), lN_mul]
  refine zq_mod (lN (a * b)) (a * b % 12289) ?_ H
  rw [pk_lT (Nat.lt_trans (zq_mb ha hb) (by decide))]
  exact Int.natCast_emod _ _
/-! the law's own power -/
theorem zq_modp {post : Int32 → Prop} {u : Nat} (k l m : Nat) (hm : m = k + l) (H : post (nI (u ^ m % 12289))) : wpL_mod post () ((nI (u ^ k % 12289)).toInt64 * (nI (u ^ l % 12289)).toInt64) :=
  zq_modm _ _ (zq_ml _) (zq_ml _) (by rw [← Nat.mul_mod, ← Nat.pow_add, ← hm]; exact H)
theorem zq_b1 : ∀ i, i < 32 → (nI i &&& 1 = 1 ∧ i % 2 = 1) ∨ (¬ nI i &&& 1 = 1 ∧ i % 2 = 0) := by decide +kernel
theorem zq_b2 : ∀ i, i < 32 → (nI i &&& 2 = 2 ∧ i % 4 = i % 2 + 2) ∨ (¬ nI i &&& 2 = 2 ∧ i % 4 = i % 2) := by decide +kernel
theorem zq_b4 : ∀ i, i < 32 → (nI i &&& 4 = 4 ∧ i % 8 = i % 4 + 4) ∨ (¬ nI i &&& 4 = 4 ∧ i % 8 = i % 4) := by decide +kernel
theorem zq_b8 : ∀ i, i < 32 → (nI i &&& 8 = 8 ∧ i % 16 = i % 8 + 8) ∨ (¬ nI i &&& 8 = 8 ∧ i % 16 = i % 8) := by decide +kernel
theorem zq_b16 : ∀ i, i < 32 → (nI i &&& 16 = 16 ∧ i = i % 16 + 16) ∨ (¬ nI i &&& 16 = 16 ∧ i = i % 16) := by decide +kernel
theorem zq_l134 {post : Int32 → Prop} {u i : Nat} (hi : i < 32) (H : post (nI (u ^ i % 12289))) : wL_power_134 post (nI i) (nI (u ^ 16 % 12289)) (nI (u ^ (i % 16) % 12289)) := by
  rcases zq_b16 i hi with ⟨h1, h2⟩ | ⟨h1, h2⟩
  · exact br_t h1 (zq_modp _ _ i h2 H)
  · exact br_f h1 (by rw [← h2]; exact H)
theorem zq_l108 {post : Int32 → Prop} {u i : Nat} (hi : i < 32) (H : post (nI (u ^ i % 12289))) : wL_power_108 post (nI i) (nI (u ^ 8 % 12289)) (nI (u ^ 16 % 12289)) (nI (u ^ (i % 8) % 12289)) := by
  rcases zq_b8 i hi with ⟨h1, h2⟩ | ⟨h1, h2⟩
  · exact br_t h1 (zq_modp _ _ (i % 16) h2 (zq_l134 hi H))
  · exact br_f h1 (by rw [← h2]; exact zq_l134 hi H)
theorem zq_l84 {post : Int32 → Prop} {u i : Nat} (hi : i < 32) (H : post (nI (u ^ i % 12289))) : wL_power_84 post (nI i) (nI (u ^ 4 % 12289)) (nI (u ^ 8 % 12289)) (nI (u ^ 16 % 12289)) (nI (u ^ (i % 4) % 12289)) := by
  rcases zq_b4 i hi with ⟨h1, h2⟩ | ⟨h1, h2⟩
  · exact br_t h1 (zq_modp _ _ (i % 8) h2 (zq_l108 hi H))
  · exact br_f h1 (by rw [← h2]; exact zq_l108 hi H)
theorem zq_l61 {post : Int32 → Prop} {u i : Nat} (hi : i < 32) (H : post (nI (u ^ i % 12289))) : wL_power_61 post (nI i) (nI (u ^ 2 % 12289)) (nI (u ^ 4 % 12289)) (nI (u ^ 8 % 12289)) (nI (u ^ 16 % 12289)) (nI (u ^ (i % 2) % 12289)) := by
  rcases zq_b2 i hi with ⟨h1, h2⟩ | ⟨h1, h2⟩
  · exact br_t h1 (zq_modp _ _ (i % 4) h2 (zq_l84 hi H))
  · exact br_f h1 (by rw [← h2]; exact zq_l84 hi H)
theorem zq_lpow {post : Int32 → Prop} (x : Int32) {i : Nat} (hi : i < 32) (H : post (nI (zq_md x ^ i % 12289))) : wpL_power post () x (nI i) := by
  have e1 : zq_md x ^ 1 % 12289 = zq_md x := by rw [Nat.pow_one, Nat.mod_eq_of_lt (zq_md_lt x)]
  refine zq_mod x.toInt64 (zq_md x ^ 1 % 12289) (by rw [e1, Jvm.Kit.i64_of_i32]; exact zq_md_eq x) ?_
  refine zq_modp 1 1 2 rfl (zq_modp 2 2 4 rfl (zq_modp 4 4 8 rfl (zq_modp 8 8 16 rfl ?_)))
  have g := zq_l61 (u := zq_md x) hi H
  rcases zq_b1 i hi with ⟨h1, h2⟩ | ⟨h1, h2⟩
  · rw [h2] at g
    exact br_t h1 g
  · rw [h2] at g
    exact br_f h1 g
end
section
/-! walks that touch no row, and the making -/
theorem zq_pow7 {post : Int32 → Prop} : ∀ (n r s e : Nat), r < 12289 → s < 12289 → e < 2 ^ n → e < 2 ^ 31 → post (nI (zq_pw n r s e)) → wX_power_7 post (n + 1) (nI r) (nI s) (nI e) := by
  intro n
  induction n with
  | zero =>
    intro r s e hr hs he he' H
    have h0 : e = 0 := by omega
    exact pk_le e 0 (fun _ => H) (fun z => absurd z (by omega))
  | succ n ih =>
    intro r s e hr hs he he' H
    unfold zq_pw at H
    have hn : e / 2 < 2 ^ n := by rw [Nat.pow_succ] at he; omega
    have st : ∀ r', r' < 12289 → post (nI (zq_pw n r' (s * s % 12289) (e / 2))) → wX_power_30 post (wX_power_7 post (n + 1)) (nI s) (nI e) (nI r') := fun r' hr' H' =>
      ⟨by decide, nm_r (zq_rem (s * s) (zq_mb hs hs) (pk_mul s s)) (nm_r (pk_shrN he' ((1 : Int32) &&& 31) 1 (by decide)) (ih r' (s * s % 12289) (e / 2) hr' (zq_ml _) hn (by omega) H'))⟩
    by_cases h0 : e = 0
    · rw [if_pos h0] at H
      exact pk_le e 0 (fun _ => H) (fun z => absurd z (by omega))
    · rw [if_neg h0] at H
      refine pk_le e 0 (fun z => absurd z (by omega)) (fun _ => ?_)
      refine pk_eq (e % 2) 0 (fun z => st r hr (by rw [if_neg (by omega)] at H; exact H)) (fun z => ⟨by decide, ?_⟩) (pk_andN (by omega) (m := 1) 1 (by decide))
      have q : nI r * nI s - nI r * nI s / 12289 * 12289 = nI (r * s % 12289) := zq_rem (r * s) (zq_mb hr hs) (pk_mul r s)
      rw [q]
      exact st _ (zq_ml _) (by rw [if_pos (by omega)] at H; exact H)
theorem zq_power {post : Int32 → Prop} (b e n : Nat) (hb : b < 12289) (he : e < 2 ^ n) (he' : e < 2 ^ 31) (H : post (nI (zq_pw n 1 b e))) : wpX_power post () (nI b) (nI e) :=
  ⟨n + 1, zq_pow7 n 1 b e (by decide) hb he he' H⟩
theorem zq_plus {post : Int32 → Prop} (a b : Nat) (ha : a < 12289) (hb : b < 12289) (H : post (nI ((a + b) % 12289))) : wpX_plus post () (nI a) (nI b) := by
  refine nm_r (nI_add a b) (pk_lt (a + b) 12289 (fun z => ?_) (fun z => ?_))
  · rw [Nat.mod_eq_of_lt z] at H
    exact H
  · have q : nI (a + b) - 12289 = nI ((a + b) % 12289) := by
      rw [show (12289 : Int32) = nI 12289 from rfl, pk_sub z]
      exact congrArg nI (by omega)
    rw [q]
    exact H
theorem zq_minus {post : Int32 → Prop} (a b : Nat) (ha : a < 12289) (hb : b < 12289) (H : post (nI ((a + 12289 - b) % 12289))) : wpX_minus post () (nI a) (nI b) := by
  by_cases h : b ≤ a
  · refine nm_r (pk_sub h) (br_t (nI_pos' (by omega)) ?_)
    rw [show (a + 12289 - b) % 12289 = a - b by omega] at H
    exact H
  · refine nm_e (br_f (fun z => absurd (pk_sneg (a := a) (b := b) (by omega) (by omega)) (Int32.not_lt.mpr z)) ?_)
    have q : nI a - nI b + 12289 = nI ((a + 12289 - b) % 12289) := by
      rw [show (a + 12289 - b) % 12289 = a + 12289 - b by omega, ← pk_sub (by omega), ← nI_add, show (12289 : Int32) = nI 12289 from rfl]
      grind
    rw [q]
    exact H
theorem zq_i180 {post : St2 → Prop} {mc ms kc ks : Nat} {a1 a2 a3 a4 a5 a6 a7 a8 a9 a10 a11 a12 a13 a14 a15 : Nat → Int32} (H : ∀ b c, post (a1, a2, b, c, a5, a6, a7, a8, a9, a10, a11, a12, a13, a14, a15)) : ∃ n, wX_init_180 post mc ms kc ks n 1 a1 a2 a3 a4 a5 a6 a7 a8 a9 a10 a11 a12 a13 a14 a15 :=
  pk_loop (fun n i (s : (Nat → Int32) × (Nat → Int32)) => wX_init_180 post mc ms kc ks n (nI i) a1 a2 s.1 s.2 a5 a6 a7 a8 a9 a10 a11 a12 a13 a14 a15) (fun i _ => 1 ≤ i) 32 1 (a3, a4) (by omega) (by omega)
    (fun n s _ => pk_le 32 32 (fun _ => H s.1 s.2) (fun z => absurd z (by omega)))
    (fun n i s hi h hw => pk_le 32 i (fun z => absurd z (by omega)) (fun _ => ⟨pk_in (i - 1) 32 (by omega) (pk_sub (b := 1) h), by decide, pk_in i 32 hi, nm_e ⟨pk_in (i - 1) 32 (by omega) (pk_sub (b := 1) h), pk_in i 64 (by omega), by decide, pk_in i 32 hi, nm_e (nm_r (nI_1 i) (hw (_, _) (by omega)))⟩⟩))
theorem zq_i139 {post : St2 → Prop} {mc ms kc ks : Nat} {a1 a2 a3 a4 a5 a6 a7 a8 a9 a10 a11 a12 a13 a14 a15 : Nat → Int32} (H : ∀ a b c, post (a1, a, b, c, a5, a6, a7, a8, a9, a10, a11, a12, a13, a14, a15)) : ∃ n, wX_init_139 post mc ms kc ks n 2 a1 a2 a3 a4 a5 a6 a7 a8 a9 a10 a11 a12 a13 a14 a15 :=
  pk_loop (fun n i (s : Nat → Int32) => wX_init_139 post mc ms kc ks n (nI i) a1 s a3 a4 a5 a6 a7 a8 a9 a10 a11 a12 a13 a14 a15) (fun i _ => 2 ≤ i) 64 2 a2 (by omega) (by omega)
    (fun n s _ => pk_le 64 64 (fun _ => nm_e (nm_e (zq_i180 (fun b c => H s b c)))) (fun z => absurd z (by omega)))
    (fun n i s hi h hw => pk_le 64 i (fun z => absurd z (by omega)) (fun _ => zq_power i 12287 14 (by omega) (by decide) (by decide) ⟨pk_in i 64 hi, nm_e (nm_r (nI_1 i) (hw _ (by omega)))⟩))
theorem zq_init {post : St2 → Prop} {mc ms : Nat} (hc : 15 ≤ mc) (hs : 2620 ≤ ms) (H : ∀ a b c, post ((fun _ => 0), a, b, c, (fun _ => 0), (fun _ => 0), (fun _ => 0), (fun _ => 0), (fun _ => 0), (fun _ => 0), (fun _ => 0), (fun _ => 0), (fun _ => 0), (fun _ => 0), (fun _ => 0))) : wpX_init post mc ms () := by
  unfold wpX_init
  refine ⟨by omega, by omega, by omega, by omega, by omega, by omega, by omega, by omega, by omega, by omega, by omega, by omega, by omega, by omega, by omega, by omega, by omega, by omega, by omega, by omega, by omega, by omega, by omega, by omega, by omega, by omega, by omega, by omega, by omega, by omega, ?_⟩
  exact nm_e (zq_i139 H)
/-! rows -/
theorem zq_ad (r i : Nat) : nI r * 32 + nI i = nI (r * 32 + i) := by
  rw [show (32 : Int32) = nI 32 from rfl, pk_mul, nI_add]
theorem zq_cell {post : Int32 → Prop} {a1 a2 a3 a4 a5 a6 a7 a8 a9 a10 a11 a12 a13 a14 a15 : Nat → Int32} {r i : Nat} (h : r * 32 + i < 384) (H : post (a1 (r * 32 + i))) : wpX_cell post (a1, a2, a3, a4, a5, a6, a7, a8, a9, a10, a11, a12, a13, a14, a15) (nI r) (nI i) :=
  ⟨pk_in (r * 32 + i) 384 h (zq_ad r i), by rw [pk_cl (r * 32 + i) (zq_ad r i)]; exact H⟩
theorem zq_write {post : St2 → Prop} {a1 a2 a3 a4 a5 a6 a7 a8 a9 a10 a11 a12 a13 a14 a15 : Nat → Int32} {r i : Nat} {v : Int32} (h : r * 32 + i < 384) (H : post (upd a1 (r * 32 + i) v, a2, a3, a4, a5, a6, a7, a8, a9, a10, a11, a12, a13, a14, a15)) : wpX_write post (a1, a2, a3, a4, a5, a6, a7, a8, a9, a10, a11, a12, a13, a14, a15) (nI r) (nI i) v :=
  ⟨pk_in (r * 32 + i) 384 h (zq_ad r i), nm_r (by rw [pk_cl (r * 32 + i) (zq_ad r i)]) H⟩
/-- one number c at place i of row r, all else there 0 -/
def zq_row (a : Nat → Int32) (r i c : Nat) : Prop := ∀ j, j < 32 → a (r * 32 + j) = nI (if j = i then c else 0)
/-- row r holds f up to place i; the other rows are a's -/
def zq_F (r : Nat) (a f : Nat → Int32) (i : Nat) (s : Nat → Int32) : Prop := (∀ j, j < i → s (r * 32 + j) = f j) ∧ (∀ k, k < r * 32 ∨ r * 32 + 32 ≤ k → s k = a k)
theorem zq_F0 {r : Nat} {a f : Nat → Int32} : zq_F r a f 0 a := ⟨fun j h => absurd h (by omega), fun k _ => rfl⟩
theorem zq_Fs {r i : Nat} {a f s : Nat → Int32} {x : Int32} (hi : i < 32) (h : zq_F r a f i s) (hx : x = f i) : zq_F r a f (i + 1) (upd s (r * 32 + i) x) := by
  refine ⟨fun j hj => ?_, fun k hk => ?_⟩
  · by_cases e : j = i
    · rw [e, pk_us, hx]
    · rw [pk_un (by omega)]
      exact h.1 j (by omega)
  · rw [pk_un (by omega)]
    exact h.2 k hk
theorem zq_fill {i : Nat} {f s : Nat → Int32} {x : Int32} (h : ∀ j, j < i → s j = f j) (hx : x = f i) : ∀ j, j < i + 1 → upd s i x j = f j := by
  intro j hj
  by_cases e : j = i
  · rw [e, pk_us, hx]
  · rw [pk_un e]
    exact h j (by omega)
theorem zq_clear {post : St2 → Prop} {a1 a2 a3 a4 a5 a6 a7 a8 a9 a10 a11 a12 a13 a14 a15 : Nat → Int32} {r : Nat} (hr : r < 12) (H : ∀ s, zq_F r a1 (fun _ => 0) 32 s → post (s, a2, a3, a4, a5, a6, a7, a8, a9, a10, a11, a12, a13, a14, a15)) : wpX_clearRow post (a1, a2, a3, a4, a5, a6, a7, a8, a9, a10, a11, a12, a13, a14, a15) (nI r) :=
  pk_loop (fun n i s => wX_clearRow_2 post (nI r) n (nI i) s a2 a3 a4 a5 a6 a7 a8 a9 a10 a11 a12 a13 a14 a15) (fun i s => zq_F r a1 (fun _ => 0) i s) 32 0 a1 (by omega) zq_F0
    (fun n s h => pk_le 32 32 (fun _ => H s h) (fun z => absurd z (by omega)))
    (fun n i s hi h hw => pk_le 32 i (fun z => absurd z (by omega)) (fun _ => ⟨pk_in (r * 32 + i) 384 (by omega) (zq_ad r i), nm_r (by rw [pk_cl (r * 32 + i) (zq_ad r i)]) (nm_r (nI_1 i) (hw _ (zq_Fs (x := 0) hi h rfl)))⟩))
theorem zq_copy {post : St2 → Prop} {a1 a2 a3 a4 a5 a6 a7 a8 a9 a10 a11 a12 a13 a14 a15 : Nat → Int32} {p q : Nat} (hp : p < 12) (hq : q < 12) (hn : p ≠ q) (H : ∀ s, zq_F q a1 (fun j => a1 (p * 32 + j)) 32 s → post (s, a2, a3, a4, a5, a6, a7, a8, a9, a10, a11, a12, a13, a14, a15)) : wpX_copyRow post (a1, a2, a3, a4, a5, a6, a7, a8, a9, a10, a11, a12, a13, a14, a15) (nI p) (nI q) :=
  pk_loop (fun n i s => wX_copyRow_2 post (nI p) (nI q) n (nI i) s a2 a3 a4 a5 a6 a7 a8 a9 a10 a11 a12 a13 a14 a15) (fun i s => zq_F q a1 (fun j => a1 (p * 32 + j)) i s) 32 0 a1 (by omega) zq_F0
    (fun n s h => pk_le 32 32 (fun _ => H s h) (fun z => absurd z (by omega)))
    (fun n i s hi h hw => pk_le 32 i (fun z => absurd z (by omega)) (fun _ => ⟨pk_in (p * 32 + i) 384 (by omega) (zq_ad p i), pk_in (q * 32 + i) 384 (by omega) (zq_ad q i), nm_r (by rw [pk_cl (q * 32 + i) (zq_ad q i), pk_cl (p * 32 + i) (zq_ad p i)]) (nm_r (nI_1 i) (hw _ (zq_Fs hi h (h.2 (p * 32 + i) (by omega)))))⟩))
end
section
/-! degree and value of a row with one number -/
theorem zq_degreeOf {post : Int32 → Prop} {a1 a2 a3 a4 a5 a6 a7 a8 a9 a10 a11 a12 a13 a14 a15 : Nat → Int32} {r i c : Nat} (hr : r < 12) (hi : i < 32) (hc : c < 12289) (hR : zq_row a1 r i c) (H0 : c = 0 → post (-1)) (H1 : c ≠ 0 → post (nI i)) : wpX_degreeOf post (a1, a2, a3, a4, a5, a6, a7, a8, a9, a10, a11, a12, a13, a14, a15) (nI r) := by
  have key : wX_degreeOf_3 post (nI r) a1 a2 a3 a4 a5 a6 a7 a8 a9 a10 a11 a12 a13 a14 a15 33 (nI 32 + (-1)) := by
    refine pk_loopD (σ := Unit) (fun n k _ => wX_degreeOf_3 post (nI r) a1 a2 a3 a4 a5 a6 a7 a8 a9 a10 a11 a12 a13 a14 a15 n (nI k + (-1))) (fun k _ => k ≤ 32 ∧ (c ≠ 0 → i < k)) ?_ ?_ 32 () ⟨by omega, fun _ => hi⟩
    · intro n s h
      have e : nI 0 + (-1) = (-1 : Int32) := by decide
      show wX_degreeOf_3 post (nI r) a1 a2 a3 a4 a5 a6 a7 a8 a9 a10 a11 a12 a13 a14 a15 (n + 1) (nI 0 + (-1))
      rw [e]
      exact br_t (by decide) (H0 (by omega))
    · intro n k s h hw
      show wX_degreeOf_3 post (nI r) a1 a2 a3 a4 a5 a6 a7 a8 a9 a10 a11 a12 a13 a14 a15 (n + 1) (nI (k + 1) + (-1))
      rw [pk_m1]
      refine pk_lt k 0 (fun z => absurd z (by omega)) (fun _ => zq_cell (by omega) ?_)
      rw [hR k (by omega)]
      by_cases e : k = i
      · rw [if_pos e]
        exact pk_eq c 0 (fun z => nm_e (hw () ⟨by omega, fun q => absurd z q⟩)) (fun z => by rw [e]; exact H1 z)
      · rw [if_neg e]
        exact br_t rfl (nm_e (hw () ⟨by omega, fun q => by have := h.2 q; omega⟩))
  have e : nI 32 + (-1) = (31 : Int32) := by decide
  rw [e] at key
  exact ⟨33, key⟩
theorem zq_valueAt {post : Int32 → Prop} {a1 a2 a3 a4 a5 a6 a7 a8 a9 a10 a11 a12 a13 a14 a15 : Nat → Int32} {r i c x : Nat} (hr : r < 12) (hi : i < 32) (hc : c < 12289) (hx : x < 12289) (hR : zq_row a1 r i c) (H : post (nI (c * x ^ i % 12289))) : wpX_valueAt post (a1, a2, a3, a4, a5, a6, a7, a8, a9, a10, a11, a12, a13, a14, a15) (nI r) (nI x) := by
  have key : wX_valueAt_6 post (nI r) (nI x) a1 a2 a3 a4 a5 a6 a7 a8 a9 a10 a11 a12 a13 a14 a15 33 (nI 0) (nI 32 + (-1)) := by
    refine pk_loopD (σ := Nat) (fun n k v => wX_valueAt_6 post (nI r) (nI x) a1 a2 a3 a4 a5 a6 a7 a8 a9 a10 a11 a12 a13 a14 a15 n (nI v) (nI k + (-1))) (fun k v => k ≤ 32 ∧ v < 12289 ∧ (i < k → v = 0) ∧ (k ≤ i → v = c * x ^ (i - k) % 12289)) ?_ ?_ 32 0 ⟨by omega, by omega, fun _ => rfl, fun z => absurd z (by omega)⟩
    · intro n v h
      have e : nI 0 + (-1) = (-1 : Int32) := by decide
      show wX_valueAt_6 post (nI r) (nI x) a1 a2 a3 a4 a5 a6 a7 a8 a9 a10 a11 a12 a13 a14 a15 (n + 1) (nI v) (nI 0 + (-1))
      rw [e]
      refine br_t (by decide) ?_
      rw [h.2.2.2 (Nat.zero_le _), Nat.sub_zero]
      exact H
    · intro n k v h hw
      obtain ⟨h1, h2, h3, h4⟩ := h
      show wX_valueAt_6 post (nI r) (nI x) a1 a2 a3 a4 a5 a6 a7 a8 a9 a10 a11 a12 a13 a14 a15 (n + 1) (nI v) (nI (k + 1) + (-1))
      rw [pk_m1]
      refine pk_lt k 0 (fun z => absurd z (by omega)) (fun _ => zq_cell (by omega) ?_)
      rw [hR k (by omega)]
      have go : ∀ w, w < 12289 → (i < k → (v * x + w) % 12289 = 0) → (k ≤ i → (v * x + w) % 12289 = c * x ^ (i - k) % 12289) → ¬ (12289 : Int32) = 0 ∧ (∀ x3_4 : Int32, x3_4 = ((nI v) * (nI x) + nI w) - ((nI v) * (nI x) + nI w) / 12289 * 12289 → (∀ x4_5 : Int32, x4_5 = nI k + (-1) → (wX_valueAt_6 post (nI r) (nI x) a1 a2 a3 a4 a5 a6 a7 a8 a9 a10 a11 a12 a13 a14 a15 n x3_4 x4_5))) := by
        intro w hw' g1 g2
        have b := Nat.mul_le_mul (show v ≤ 12288 by omega) (show x ≤ 12288 by omega)
        exact ⟨by decide, nm_r (zq_rem (v * x + w) (by omega) (by rw [pk_mul, nI_add])) (nm_e (hw _ ⟨by omega, zq_ml _, g1, g2⟩))⟩
      by_cases e : k = i
      · rw [if_pos e]
        refine go c hc (fun z => absurd z (by omega)) (fun _ => ?_)
        rw [h3 (by omega), Nat.zero_mul, Nat.zero_add, show i - k = 0 by omega, Nat.pow_zero, Nat.mul_one]
      · rw [if_neg e]
        refine go 0 (by omega) (fun z => ?_) (fun z => ?_)
        · rw [h3 (by omega), Nat.zero_mul]
        · rw [h4 (by omega), Nat.add_zero, show i - k = i - (k + 1) + 1 by omega, Nat.pow_succ, ← Nat.mul_assoc, Nat.mod_mul_mod]
  have e : nI 32 + (-1) = (31 : Int32) := by decide
  rw [e] at key
  exact ⟨33, key⟩
/-! what a place and a series is -/
theorem zq_sT {post : Int32 → Prop} {r : Nat} (hr : r < 5) (H : post 1) : wpX_isSeries post () (nI r) :=
  pk_lt r 0 (fun z => absurd z (by omega)) (fun _ => pk_le 5 r (fun z => absurd z (by omega)) (fun _ => H))
theorem zq_sF {post : Int32 → Prop} {s : Int32} (h : s < 0 ∨ 5 ≤ s) (H : post 0) : wpX_isSeries post () s := by
  by_cases g : s < 0
  · exact br_t g H
  · exact br_f g (br_t (h.resolve_left g) H)
theorem zq_pT {post : Int32 → Prop} {i : Nat} (hi : i < 32) (H : post 1) : wpX_isPlace post () (nI i) :=
  pk_lt i 0 (fun z => absurd z (by omega)) (fun _ => pk_le 32 i (fun z => absurd z (by omega)) (fun _ => H))
theorem zq_pF {post : Int32 → Prop} {s : Int32} (h : s < 0 ∨ 32 ≤ s) (H : post 0) : wpX_isPlace post () s := by
  by_cases g : s < 0
  · exact br_t g H
  · exact br_f g (br_t (h.resolve_left g) H)
/-! the calls that answer without an engine -/
theorem zq_setT {post : Int32 → St2 → Prop} {a1 a2 a3 a4 a5 a6 a7 a8 a9 a10 a11 a12 a13 a14 a15 : Nat → Int32} {r i : Nat} {v : Int32} (hr : r < 5) (hi : i < 32) (H : post 1 (upd a1 (r * 32 + i) (nI (zq_md v)), a2, a3, a4, a5, a6, a7, a8, a9, a10, a11, a12, a13, a14, a15)) : wpX_set post (a1, a2, a3, a4, a5, a6, a7, a8, a9, a10, a11, a12, a13, a14, a15) (nI r) (nI i) v := by
  unfold wpX_set
  exact zq_sT hr (br_f (by decide) (zq_pT hi (br_f (by decide) (zq_normal v ⟨pk_in (r * 32 + i) 384 (by omega) (zq_ad r i), nm_r (by rw [pk_cl (r * 32 + i) (zq_ad r i)]) H⟩))))
theorem zq_setS {post : Int32 → St2 → Prop} {a1 a2 a3 a4 a5 a6 a7 a8 a9 a10 a11 a12 a13 a14 a15 : Nat → Int32} {s i v : Int32} (h : s < 0 ∨ 5 ≤ s) (H : post 0 (a1, a2, a3, a4, a5, a6, a7, a8, a9, a10, a11, a12, a13, a14, a15)) : wpX_set post (a1, a2, a3, a4, a5, a6, a7, a8, a9, a10, a11, a12, a13, a14, a15) s i v := by
  unfold wpX_set
  exact zq_sF h (br_t rfl H)
theorem zq_setP {post : Int32 → St2 → Prop} {a1 a2 a3 a4 a5 a6 a7 a8 a9 a10 a11 a12 a13 a14 a15 : Nat → Int32} {r : Nat} {i v : Int32} (hr : r < 5) (h : i < 0 ∨ 32 ≤ i) (H : post 0 (a1, a2, a3, a4, a5, a6, a7, a8, a9, a10, a11, a12, a13, a14, a15)) : wpX_set post (a1, a2, a3, a4, a5, a6, a7, a8, a9, a10, a11, a12, a13, a14, a15) (nI r) i v := by
  unfold wpX_set
  exact zq_sT hr (br_f (by decide) (zq_pF h (br_t rfl H)))
theorem zq_coT {post : Int32 → Prop} {a1 a2 a3 a4 a5 a6 a7 a8 a9 a10 a11 a12 a13 a14 a15 : Nat → Int32} {r i : Nat} (hr : r < 5) (hi : i < 32) (H : post (a1 (r * 32 + i))) : wpX_coefficient post (a1, a2, a3, a4, a5, a6, a7, a8, a9, a10, a11, a12, a13, a14, a15) (nI r) (nI i) := by
  unfold wpX_coefficient
  exact zq_sT hr (br_f (by decide) (zq_pT hi (br_f (by decide) (zq_cell (by omega) H))))
theorem zq_coS {post : Int32 → Prop} {a1 a2 a3 a4 a5 a6 a7 a8 a9 a10 a11 a12 a13 a14 a15 : Nat → Int32} {s i : Int32} (h : s < 0 ∨ 5 ≤ s) (H : post (-2)) : wpX_coefficient post (a1, a2, a3, a4, a5, a6, a7, a8, a9, a10, a11, a12, a13, a14, a15) s i := by
  unfold wpX_coefficient
  exact zq_sF h (br_t rfl H)
theorem zq_coP {post : Int32 → Prop} {a1 a2 a3 a4 a5 a6 a7 a8 a9 a10 a11 a12 a13 a14 a15 : Nat → Int32} {r : Nat} {i : Int32} (hr : r < 5) (h : i < 0 ∨ 32 ≤ i) (H : post (-2)) : wpX_coefficient post (a1, a2, a3, a4, a5, a6, a7, a8, a9, a10, a11, a12, a13, a14, a15) (nI r) i := by
  unfold wpX_coefficient
  exact zq_sT hr (br_f (by decide) (zq_pF h (br_t rfl H)))
theorem zq_degT {post : Int32 → Prop} {a1 a2 a3 a4 a5 a6 a7 a8 a9 a10 a11 a12 a13 a14 a15 : Nat → Int32} {r i c : Nat} (hr : r < 5) (hi : i < 32) (hc : c < 12289) (hR : zq_row a1 r i c) (H0 : c = 0 → post (-1)) (H1 : c ≠ 0 → post (nI i)) : wpX_degree post (a1, a2, a3, a4, a5, a6, a7, a8, a9, a10, a11, a12, a13, a14, a15) (nI r) := by
  unfold wpX_degree
  exact zq_sT hr (br_f (by decide) (zq_degreeOf (by omega) hi hc hR H0 H1))
theorem zq_degS {post : Int32 → Prop} {a1 a2 a3 a4 a5 a6 a7 a8 a9 a10 a11 a12 a13 a14 a15 : Nat → Int32} {s : Int32} (h : s < 0 ∨ 5 ≤ s) (H : post (-2)) : wpX_degree post (a1, a2, a3, a4, a5, a6, a7, a8, a9, a10, a11, a12, a13, a14, a15) s := by
  unfold wpX_degree
  exact zq_sF h (br_t rfl H)
theorem zq_valT {post : Int32 → Prop} {a1 a2 a3 a4 a5 a6 a7 a8 a9 a10 a11 a12 a13 a14 a15 : Nat → Int32} {r i c : Nat} {x : Int32} (hr : r < 5) (hi : i < 32) (hc : c < 12289) (hR : zq_row a1 r i c) (H : post (nI (c * zq_md x ^ i % 12289))) : wpX_value post (a1, a2, a3, a4, a5, a6, a7, a8, a9, a10, a11, a12, a13, a14, a15) (nI r) x := by
  unfold wpX_value
  exact zq_sT hr (br_f (by decide) (zq_normal x (zq_valueAt (by omega) hi hc (zq_md_lt x) hR H)))
theorem zq_valS {post : Int32 → Prop} {a1 a2 a3 a4 a5 a6 a7 a8 a9 a10 a11 a12 a13 a14 a15 : Nat → Int32} {s x : Int32} (h : s < 0 ∨ 5 ≤ s) (H : post (-2)) : wpX_value post (a1, a2, a3, a4, a5, a6, a7, a8, a9, a10, a11, a12, a13, a14, a15) s x := by
  unfold wpX_value
  exact zq_sF h (br_t rfl H)
end
section
/-! engine 3: the places of a stage -/
def zq_at (h i : Nat) : Nat := i / h * (2 * h) + i % h
def zq_pi (h j : Nat) : Nat := j / (2 * h) * h + j % h
theorem zq_p2 : ∀ k, k < 6 → 0 < 2 ^ k ∧ 2 ^ k ≤ 32 := by decide
theorem zq_ix : ∀ k, k < 6 → ∀ i, i < 32 → zq_at (2 ^ k) i + 2 ^ k < 64 ∧ i % 2 ^ k * (64 / (2 * 2 ^ k)) < 64 := by decide +kernel
theorem zq_iy : ∀ k, k < 6 → ∀ i, i < 32 → ∀ j, j < 64 → (zq_pi (2 ^ k) j = i ↔ j = zq_at (2 ^ k) i ∨ j = zq_at (2 ^ k) i + 2 ^ k) := by decide +kernel
theorem zq_iz : ∀ k, k < 6 → ∀ j, j < 64 → zq_pi (2 ^ k) j < 32 := by decide +kernel
/-- one stage, k: o becomes w; what is turned is 0, or turned by 1 -/
def zq_step (k : Nat) (o w : Nat → Nat) : Prop := ∀ i, i < 32 →
  (o (zq_at (2 ^ k) i + 2 ^ k) = 0 ∨ i % 2 ^ k = 0) ∧
  w (zq_at (2 ^ k) i) = (o (zq_at (2 ^ k) i) + o (zq_at (2 ^ k) i + 2 ^ k)) % 12289 ∧
  w (zq_at (2 ^ k) i + 2 ^ k) = (o (zq_at (2 ^ k) i) + 12289 - o (zq_at (2 ^ k) i + 2 ^ k)) % 12289
theorem zq_cross {post : St2 → Prop} {a1 a2 a3 a4 a5 a6 a7 a8 a9 a10 a11 a12 a13 a14 a15 : Nat → Int32} {p q x y : Nat} {t : Int32} (hp : p < 64) (hq : q < 64) (hx : a13 p = nI x) (hy : a13 q = nI y) (bx : x < 12289) (bz : y < 12289) (ht : nI y * t = nI y)
    (H : post (a1, a2, a3, a4, a5, a6, a7, a8, a9, a10, a11, a12, upd (upd a13 p (nI ((x + y) % 12289))) q (nI ((x + 12289 - y) % 12289)), a14, a15)) : wpX_cross2 post (a1, a2, a3, a4, a5, a6, a7, a8, a9, a10, a11, a12, a13, a14, a15) (nI p) (nI q) t := by
  have e1 : a13 (nI p).toNatClampNeg = nI x := by rw [pk_cl p]; exact hx
  have e2 : a13 (nI q).toNatClampNeg * t - a13 (nI q).toNatClampNeg * t / 12289 * 12289 = nI y := by
    rw [pk_cl q, hy, ht, zq_rem y (by omega) rfl, Nat.mod_eq_of_lt bz]
  refine ⟨pk_in p 64 hp, nm_r e1 ⟨pk_in q 64 hq, by decide, nm_r e2 (zq_plus x y bx bz ⟨pk_in p 64 hp, nm_r (by rw [pk_cl p]) (zq_minus x y bx bz ⟨pk_in q 64 hq, nm_r (by rw [pk_cl q]) H⟩)⟩)⟩⟩
theorem zq_put {k i : Nat} (hk : k < 6) (hi : i < 32) {o w : Nat → Nat} {b : Nat → Int32} (hst : zq_step k o w)
    (h : ∀ j, j < 64 → b j = nI (if zq_pi (2 ^ k) j < i then w j else o j)) :
    ∀ j, j < 64 → upd (upd b (zq_at (2 ^ k) i) (nI ((o (zq_at (2 ^ k) i) + o (zq_at (2 ^ k) i + 2 ^ k)) % 12289))) (zq_at (2 ^ k) i + 2 ^ k) (nI ((o (zq_at (2 ^ k) i) + 12289 - o (zq_at (2 ^ k) i + 2 ^ k)) % 12289)) j = nI (if zq_pi (2 ^ k) j < i + 1 then w j else o j) := by
  intro j hj
  obtain ⟨_, s2, s3⟩ := hst i hi
  have t := zq_iy k hk i hi j hj
  rw [← s2, ← s3]
  by_cases e1 : j = zq_at (2 ^ k) i + 2 ^ k
  · have g := t.mpr (Or.inr e1)
    rw [if_pos (by omega), e1, pk_us]
  · rw [pk_un e1]
    by_cases e2 : j = zq_at (2 ^ k) i
    · have g := t.mpr (Or.inl e2)
      rw [if_pos (by omega), e2, pk_us]
    · rw [pk_un e2, h j hj]
      have g : zq_pi (2 ^ k) j ≠ i := fun z => (t.mp z).elim e2 e1
      by_cases e3 : zq_pi (2 ^ k) j < i
      · rw [if_pos e3, if_pos (by omega)]
      · rw [if_neg e3, if_neg (by omega)]
theorem zq_103 {post : St2 → Prop} {J : Int32 → (Nat → Int32) → (Nat → Int32) → (Nat → Int32) → (Nat → Int32) → (Nat → Int32) → (Nat → Int32) → (Nat → Int32) → (Nat → Int32) → (Nat → Int32) → (Nat → Int32) → (Nat → Int32) → (Nat → Int32) → (Nat → Int32) → (Nat → Int32) → (Nat → Int32) → Prop} {a1 a2 a3 a4 a5 a6 a7 a8 a9 a10 a11 a12 a13 a14 a15 : Nat → Int32} {k : Nat} (hk : k < 6) {o w : Nat → Nat}
    (ho : ∀ j, j < 64 → o j < 12289) (hst : zq_step k o w) (h13 : ∀ j, j < 64 → a13 j = nI (o j)) (h15 : a15 0 = 1)
    (H : ∀ b, (∀ j, j < 64 → b j = nI (w j)) → J (nI (2 * 2 ^ (k + 1))) a1 a2 a3 a4 a5 a6 a7 a8 a9 a10 a11 a12 b a14 a15) : ∃ n, wX_transform_103 post J (nI (2 * 2 ^ k)) n 0 a1 a2 a3 a4 a5 a6 a7 a8 a9 a10 a11 a12 a13 a14 a15 := by
  obtain ⟨p0, p1⟩ := zq_p2 k hk
  have hi0 : ∀ j, j < 64 → a13 j = nI (if zq_pi (2 ^ k) j < 0 then w j else o j) := fun j hj => by
    rw [if_neg (by omega)]
    exact h13 j hj
  refine pk_loop (fun n i s => wX_transform_103 post J (nI (2 * 2 ^ k)) n (nI i) a1 a2 a3 a4 a5 a6 a7 a8 a9 a10 a11 a12 s a14 a15) (fun i s => ∀ j, j < 64 → s j = nI (if zq_pi (2 ^ k) j < i then w j else o j)) 32 0 a13 (by omega) hi0 ?_ ?_
  · intro n s h
    have e : nI (2 * 2 ^ k) * 2 = nI (2 * 2 ^ (k + 1)) := by
      rw [show (2 : Int32) = nI 2 from rfl, pk_mul, Nat.pow_succ, Nat.mul_assoc]
    refine pk_le 32 32 (fun _ => nm_r e (H s (fun j hj => ?_))) (fun z => absurd z (by omega))
    rw [h j hj]
    rw [if_pos (zq_iz k hk j hj)]
  · intro n i s hi h hw
    obtain ⟨x1, x2⟩ := zq_ix k hk i hi
    obtain ⟨s1, s2, s3⟩ := hst i hi
    have np := zq_put hk hi hst h
    have y1 := (zq_iy k hk i hi (zq_at (2 ^ k) i) (by omega)).mpr (Or.inl rfl)
    have y2 := (zq_iy k hk i hi (zq_at (2 ^ k) i + 2 ^ k) x1).mpr (Or.inr rfl)
    have v1 := h (zq_at (2 ^ k) i) (by omega)
    have v2 := h (zq_at (2 ^ k) i + 2 ^ k) x1
    rw [if_neg (by omega)] at v1 v2
    have b1 := ho (zq_at (2 ^ k) i) (by omega)
    have b2 := ho (zq_at (2 ^ k) i + 2 ^ k) x1
    have e0 : nI (2 * 2 ^ k) / 2 = nI (2 ^ k) := by
      rw [show (2 : Int32) = nI 2 from rfl, pk_div (by omega) (by omega) (by omega)]
      exact congrArg nI (by omega)
    have e1 : nI i / nI (2 ^ k) * nI (2 * 2 ^ k) + (nI i - nI i / nI (2 ^ k) * nI (2 ^ k)) = nI (zq_at (2 ^ k) i) := by
      rw [pk_rem (by omega) p0 (by omega), pk_div (by omega) p0 (by omega), pk_mul, nI_add]
      rfl
    have e2 : (nI i - nI i / nI (2 ^ k) * nI (2 ^ k)) * (64 / nI (2 * 2 ^ k)) = nI (i % 2 ^ k * (64 / (2 * 2 ^ k))) := by
      rw [pk_rem (by omega) p0 (by omega), show (64 : Int32) = nI 64 from rfl, pk_div (by omega) (by omega) (by omega), pk_mul]
    have n1 : ¬ nI (2 ^ k) = 0 := nI_ne0 p0 (by omega)
    have n2 : ¬ nI (2 * 2 ^ k) = 0 := nI_ne0 (by omega) (by omega)
    have e3 : a15 ((nI i - nI i / nI (2 ^ k) * nI (2 ^ k)) * (64 / nI (2 * 2 ^ k))).toNatClampNeg = a15 (i % 2 ^ k * (64 / (2 * 2 ^ k))) := by
      rw [e2, nI_clamp (by omega)]
    have ht : nI (o (zq_at (2 ^ k) i + 2 ^ k)) * a15 (i % 2 ^ k * (64 / (2 * 2 ^ k))) = nI (o (zq_at (2 ^ k) i + 2 ^ k)) := by
      rcases s1 with z | z
      · rw [z, nI_0, Int32.zero_mul]
      · rw [z, Nat.zero_mul, h15, Int32.mul_one]
    refine pk_le 32 i (fun z => absurd z (by omega)) (fun _ => ⟨by decide, nm_r e0 ⟨n1, n1, nm_r e1 ⟨n1, n2, pk_in _ 64 x2 e2, nm_r e3 ?_⟩⟩⟩)
    rw [nI_add (zq_at (2 ^ k) i) (2 ^ k)]
    exact zq_cross (by omega) x1 v1 v2 b1 b2 ht (nm_r (nI_1 i) (hw _ np))
end
section
/-! engine 3: the whole transform, over a sequence of arrays -/
def zq_ok (S : Nat → Nat → Nat) : Prop := (∀ k, k < 7 → ∀ j, j < 64 → S k j < 12289) ∧ (∀ i j, 0 < i → i < 64 → 0 < j → j < 64 → S 0 i = S 0 j) ∧ (∀ k, k < 6 → zq_step k (S k) (S (k + 1)))
theorem zq_95 {post : St2 → Prop} {a1 a2 a3 a4 a5 a6 a7 a8 a9 a10 a11 a12 a13 a14 a15 : Nat → Int32} {S : Nat → Nat → Nat} (hS : zq_ok S) (h13 : ∀ j, j < 64 → a13 j = nI (S 0 j)) (h15 : a15 0 = 1)
    (H : ∀ b, (∀ j, j < 64 → b j = nI (S 6 j)) → post (a1, a2, a3, a4, a5, a6, a7, a8, a9, a10, a11, a12, b, a14, a15)) : ∃ n, wX_transform_95 post n 2 a1 a2 a3 a4 a5 a6 a7 a8 a9 a10 a11 a12 a13 a14 a15 := by
  refine pk_loop (fun n k s => wX_transform_95 post n (nI (2 * 2 ^ k)) a1 a2 a3 a4 a5 a6 a7 a8 a9 a10 a11 a12 s a14 a15) (fun k s => ∀ j, j < 64 → s j = nI (S k j)) 6 0 a13 (by omega) h13 ?_ ?_
  · intro n s h
    exact pk_lt 64 (2 * 2 ^ 6) (fun _ => H s h) (fun z => absurd z (by decide))
  · intro n k s hk h hw
    obtain ⟨p0, p1⟩ := zq_p2 k hk
    exact pk_lt 64 (2 * 2 ^ k) (fun z => absurd z (by omega)) (fun _ => zq_103 hk (hS.1 k (by omega)) (hS.2.2 k hk) h h15 (fun b hb => hw b hb))
/-- a number's six bits turned around, as it is done there -/
def zq_tn (x : Int32) : Nat → Int32
  | 0 => 0
  | b + 1 => zq_tn x b ||| (((x >>> (nI b &&& 31)) &&& 1) <<< ((5 - nI b) &&& 31))
theorem zq_tk : ∀ i, i < 64 → zq_tn (nI i) 6 = nI (zq_tn (nI i) 6).toNatClampNeg ∧ (zq_tn (nI i) 6).toNatClampNeg < 64 ∧ (i = 0 → (zq_tn (nI i) 6).toNatClampNeg = 0) := by decide +kernel
theorem zq_turned {post : Int32 → Prop} {i : Nat} (hi : i < 64) (H : ∀ t, t < 64 → (i = 0 → t = 0) → post (nI t)) : wpX_turned post () (nI i) := by
  obtain ⟨t1, t2, t3⟩ := zq_tk i hi
  have g : post (zq_tn (nI i) 6) := by
    rw [t1]
    exact H _ t2 t3
  exact pk_loop (fun n b s => wX_turned_4 post (nI i) n s (nI b)) (fun b s => s = zq_tn (nI i) b) 6 0 0 (by omega) rfl
    (fun n s h => pk_le 6 6 (fun _ => by rw [h]; exact g) (fun z => absurd z (by omega)))
    (fun n b s hb h hw => pk_le 6 b (fun z => absurd z (by omega)) (fun _ => nm_e (nm_r (nI_1 b) (hw _ (by rw [h]; rfl)))))
theorem zq_swap {f : Nat → Nat} {b : Nat → Int32} {i t : Nat} (hi : i < 64) (ht : t < 64) (e : f i = f t) (h : ∀ j, j < 64 → b j = nI (f j)) : ∀ j, j < 64 → upd (upd b i (b t)) t (b i) j = nI (f j) := by
  intro j hj
  by_cases e1 : j = t
  · rw [e1, pk_us, h i hi, e]
  · rw [pk_un e1]
    by_cases e2 : j = i
    · rw [e2, pk_us, h t ht, e]
    · rw [pk_un e2]
      exact h j hj
theorem zq_43 {post : St2 → Prop} {a1 a2 a3 a4 a5 a6 a7 a8 a9 a10 a11 a12 a13 a14 a15 : Nat → Int32} {S : Nat → Nat → Nat} (hS : zq_ok S) (h13 : ∀ j, j < 64 → a13 j = nI (S 0 j)) (h15 : a15 0 = 1)
    (H : ∀ b, (∀ j, j < 64 → b j = nI (S 6 j)) → post (a1, a2, a3, a4, a5, a6, a7, a8, a9, a10, a11, a12, b, a14, a15)) : ∃ n, wX_transform_43 post n 0 a1 a2 a3 a4 a5 a6 a7 a8 a9 a10 a11 a12 a13 a14 a15 := by
  refine pk_loop (fun n i s => wX_transform_43 post n (nI i) a1 a2 a3 a4 a5 a6 a7 a8 a9 a10 a11 a12 s a14 a15) (fun i s => ∀ j, j < 64 → s j = nI (S 0 j)) 64 0 a13 (by omega) h13 ?_ ?_
  · intro n s h
    exact pk_le 64 64 (fun _ => zq_95 hS h h15 H) (fun z => absurd z (by omega))
  · intro n i s hi h hw
    refine pk_le 64 i (fun z => absurd z (by omega)) (fun _ => zq_turned hi (fun t ht h0 => pk_le t i (fun z => nm_r (nI_1 i) (hw s h)) (fun z => ?_)))
    have e : S 0 i = S 0 t := hS.2.1 i t (by omega) hi (by omega) ht
    have c1 : (nI i).toNatClampNeg = i := pk_cl i
    have c2 : (nI t).toNatClampNeg = t := pk_cl t
    exact ⟨pk_in i 64 hi, nm_r (by rw [c1]) ⟨pk_in t 64 ht, pk_in i 64 hi, nm_r (by rw [c1, c2]) ⟨pk_in t 64 ht, nm_r (by rw [c2]) (nm_r (nI_1 i) (hw _ (zq_swap hi ht e h)))⟩⟩⟩
theorem zq_9 {post : St2 → Prop} {a1 a2 a3 a4 a5 a6 a7 a8 a9 a10 a11 a12 a13 a14 a15 : Nat → Int32} {x : Int32} {S : Nat → Nat → Nat} (hS : zq_ok S) (h13 : ∀ j, j < 64 → a13 j = nI (S 0 j)) (h15 : a15 0 = 1)
    (H : ∀ b c, (∀ j, j < 64 → b j = nI (S 6 j)) → post (a1, a2, a3, a4, a5, a6, a7, a8, a9, a10, a11, a12, b, a14, c)) : ∃ n, wX_transform_9 post x n 1 a1 a2 a3 a4 a5 a6 a7 a8 a9 a10 a11 a12 a13 a14 a15 := by
  refine pk_loop (fun n i s => wX_transform_9 post x n (nI i) a1 a2 a3 a4 a5 a6 a7 a8 a9 a10 a11 a12 a13 a14 s) (fun i s => 1 ≤ i ∧ s 0 = 1) 64 1 a15 (by omega) ⟨by omega, h15⟩ ?_ ?_
  · intro n s h
    exact pk_le 64 64 (fun _ => zq_43 hS h13 h.2 (fun b hb => H b s hb)) (fun z => absurd z (by omega))
  · intro n i s hi h hw
    obtain ⟨h1, h2⟩ := h
    refine pk_le 64 i (fun z => absurd z (by omega)) (fun _ => ⟨pk_in (i - 1) 64 (by omega) (pk_sub (b := 1) h1), by decide, pk_in i 64 hi, nm_e (nm_r (nI_1 i) (hw _ ⟨by omega, ?_⟩))⟩)
    rw [pk_cl i, pk_un (by omega)]
    exact h2
theorem zq_trans {post : St2 → Prop} {a1 a2 a3 a4 a5 a6 a7 a8 a9 a10 a11 a12 a13 a14 a15 : Nat → Int32} {x : Int32} {S : Nat → Nat → Nat} (hS : zq_ok S) (h13 : ∀ j, j < 64 → a13 j = nI (S 0 j))
    (H : ∀ b c, (∀ j, j < 64 → b j = nI (S 6 j)) → post (a1, a2, a3, a4, a5, a6, a7, a8, a9, a10, a11, a12, b, a14, c)) : wpX_transform post (a1, a2, a3, a4, a5, a6, a7, a8, a9, a10, a11, a12, a13, a14, a15) x :=
  nm_e (zq_9 hS h13 pk_us H)
/-! the two sequences: of one number at 0, and of the same number everywhere -/
def zq_fw (c k j : Nat) : Nat := if j < 2 ^ k then c else 0
def zq_bw (c k j : Nat) : Nat := if j % 2 ^ k = 0 then 2 ^ k * c % 12289 else 0
theorem zq_fx : ∀ k, k < 6 → ∀ i, i < 32 → (zq_at (2 ^ k) i < 2 ^ (k + 1) ↔ zq_at (2 ^ k) i < 2 ^ k) ∧ (zq_at (2 ^ k) i + 2 ^ k < 2 ^ (k + 1) ↔ zq_at (2 ^ k) i < 2 ^ k) := by decide +kernel
theorem zq_bx : ∀ k, k < 6 → ∀ i, i < 32 → (zq_at (2 ^ k) i % 2 ^ (k + 1) = 0 ↔ i % 2 ^ k = 0) ∧ (zq_at (2 ^ k) i % 2 ^ k = 0 ↔ i % 2 ^ k = 0) ∧ ((zq_at (2 ^ k) i + 2 ^ k) % 2 ^ k = 0 ↔ i % 2 ^ k = 0) ∧ ¬ (zq_at (2 ^ k) i + 2 ^ k) % 2 ^ (k + 1) = 0 := by decide +kernel
theorem zq_fwOk {c : Nat} (hc : c < 12289) : zq_ok (zq_fw c) := by
  refine ⟨fun k _ j _ => ?_, fun i j h1 _ h2 _ => ?_, fun k hk i hi => ?_⟩
  · unfold zq_fw
    split
    · exact hc
    · decide
  · unfold zq_fw
    rw [if_neg (by omega), if_neg (by omega)]
  · obtain ⟨f1, f2⟩ := zq_fx k hk i hi
    have z : zq_fw c k (zq_at (2 ^ k) i + 2 ^ k) = 0 := if_neg (by omega)
    rw [z]
    refine ⟨Or.inl rfl, ?_, ?_⟩
    · unfold zq_fw
      by_cases g : zq_at (2 ^ k) i < 2 ^ k
      · rw [if_pos g, if_pos (f1.mpr g)]
        omega
      · rw [if_neg g, if_neg (fun q => g (f1.mp q))]
    · unfold zq_fw
      by_cases g : zq_at (2 ^ k) i < 2 ^ k
      · rw [if_pos g, if_pos (f2.mpr g)]
        omega
      · rw [if_neg g, if_neg (fun q => g (f2.mp q))]
theorem zq_bwOk {c : Nat} : zq_ok (zq_bw c) := by
  refine ⟨fun k _ j _ => ?_, fun i j _ _ _ _ => ?_, fun k hk i hi => ?_⟩
  · unfold zq_bw
    split
    · exact zq_ml _
    · decide
  · unfold zq_bw
    rw [Nat.pow_zero, Nat.mod_one, Nat.mod_one]
  · obtain ⟨f1, f2, f3, f4⟩ := zq_bx k hk i hi
    have z : zq_bw c (k + 1) (zq_at (2 ^ k) i + 2 ^ k) = 0 := if_neg f4
    rw [z]
    by_cases g : i % 2 ^ k = 0
    · have w1 : zq_bw c k (zq_at (2 ^ k) i) = 2 ^ k * c % 12289 := if_pos (f2.mpr g)
      have w2 : zq_bw c k (zq_at (2 ^ k) i + 2 ^ k) = 2 ^ k * c % 12289 := if_pos (f3.mpr g)
      have w3 : zq_bw c (k + 1) (zq_at (2 ^ k) i) = 2 ^ (k + 1) * c % 12289 := if_pos (f1.mpr g)
      rw [w1, w2, w3]
      refine ⟨Or.inr g, ?_, ?_⟩
      · rw [← Nat.add_mod, Nat.pow_succ, ← Nat.mul_two, Nat.mul_right_comm]
      · have := zq_ml (2 ^ k * c)
        omega
    · have w1 : zq_bw c k (zq_at (2 ^ k) i) = 0 := if_neg (fun q => g (f2.mp q))
      have w2 : zq_bw c k (zq_at (2 ^ k) i + 2 ^ k) = 0 := if_neg (fun q => g (f3.mp q))
      have w3 : zq_bw c (k + 1) (zq_at (2 ^ k) i) = 0 := if_neg (fun q => g (f1.mp q))
      rw [w1, w2, w3]
      exact ⟨Or.inl rfl, rfl, rfl⟩
end
section
/-! engine 3: the product of two rows with one number each, at place 0 -/
theorem zq_fw0 (c : Nat) : zq_fw c 0 0 = c := rfl
theorem zq_fwn (c : Nat) {j : Nat} (h : 0 < j) : zq_fw c 0 j = 0 := if_neg (show ¬ j < 1 by omega)
theorem zq_fw6 (c : Nat) {j : Nat} (h : j < 64) : zq_fw c 6 j = c := if_pos (show j < 64 from h)
theorem zq_bw0 {c : Nat} (hc : c < 12289) (j : Nat) : zq_bw c 0 j = c := by
  unfold zq_bw
  rw [Nat.pow_zero, Nat.mod_one, if_pos rfl, Nat.one_mul, Nat.mod_eq_of_lt hc]
theorem zq_load {post : St2 → Prop} {a1 a2 a3 a4 a5 a6 a7 a8 a9 a10 a11 a12 a13 a14 a15 : Nat → Int32} {r c : Nat} (hr : r < 12) (hR : zq_row a1 r 0 c) (H : ∀ b, (∀ j, j < 64 → b j = nI (zq_fw c 0 j)) → post (a1, a2, a3, a4, a5, a6, a7, a8, a9, a10, a11, a12, b, a14, a15)) : wpX_loadWide post (a1, a2, a3, a4, a5, a6, a7, a8, a9, a10, a11, a12, a13, a14, a15) (nI r) :=
  pk_loop (fun n i s => wX_loadWide_2 post (nI r) n (nI i) a1 a2 a3 a4 a5 a6 a7 a8 a9 a10 a11 a12 s a14 a15) (fun i s => ∀ j, j < i → s j = nI (zq_fw c 0 j)) 64 0 a13 (by omega) (fun j h => absurd h (by omega))
    (fun n s h => pk_le 64 64 (fun _ => H s h) (fun z => absurd z (by omega)))
    (fun n i s hi h hw => pk_le 64 i (fun z => absurd z (by omega)) (fun _ => pk_le 32 i
      (fun z => ⟨pk_in i 64 hi, nm_r (by rw [pk_cl i]) (nm_r (nI_1 i) (hw _ (zq_fill (f := fun j => nI (zq_fw c 0 j)) (x := 0) h (by rw [zq_fwn c (by omega)]; rfl))))⟩)
      (fun z => zq_cell (by omega) ⟨pk_in i 64 hi, nm_r (by rw [pk_cl i]) (nm_r (nI_1 i) (hw _ (zq_fill (f := fun j => nI (zq_fw c 0 j)) (x := a1 (r * 32 + i)) h (by
        rw [hR i z]
        by_cases e : i = 0
        · rw [if_pos e, e, zq_fw0]
        · rw [if_neg e, zq_fwn c (by omega)]))))⟩)))
theorem zq_128 {post : St2 → Prop} {a1 a2 a3 a4 a5 a6 a7 a8 a9 a10 a11 a12 a13 a14 a15 : Nat → Int32} {w : Nat → Nat} {t : Nat} (ht : t < 12289) (hw : ∀ j, j < 64 → w j < 12289) (h13 : ∀ j, j < 64 → a13 j = nI (w j))
    (H : ∀ s, zq_F 5 a1 (fun j => nI (w j * t % 12289)) 32 s → post (s, a2, a3, a4, a5, a6, a7, a8, a9, a10, a11, a12, a13, a14, a15)) : ∃ n, wX_multiplyByRoots_128 post (nI t) n 0 a1 a2 a3 a4 a5 a6 a7 a8 a9 a10 a11 a12 a13 a14 a15 :=
  pk_loop (fun n i s => wX_multiplyByRoots_128 post (nI t) n (nI i) s a2 a3 a4 a5 a6 a7 a8 a9 a10 a11 a12 a13 a14 a15) (fun i s => zq_F 5 a1 (fun j => nI (w j * t % 12289)) i s) 32 0 a1 (by omega) zq_F0
    (fun n s h => pk_le 32 32 (fun _ => H s h) (fun z => absurd z (by omega)))
    (fun n i s hi h hw' => pk_le 32 i (fun z => absurd z (by omega)) (fun _ => ⟨pk_in i 64 (by omega), by decide, zq_write (r := 5) (by omega) (nm_r (nI_1 i) (hw' _ (zq_Fs hi h (by
      rw [pk_cl i, h13 i (by omega)]
      exact zq_rem (w i * t) (zq_mb (hw i (by omega)) ht) (pk_mul _ _)))))⟩))
theorem zq_62 {post : St2 → Prop} {a1 a2 a3 a4 a5 a6 a7 a8 a9 a10 a11 a12 a13 a14 a15 : Nat → Int32} {g x y : Nat} (hg : g < 12289) (hx : x < 12289) (hy : y < 12289) (h13 : ∀ j, j < 64 → a13 j = nI x) (h14 : ∀ j, j < 64 → a14 j = nI y)
    (H : ∀ s b d, zq_F 5 a1 (fun j => nI (if j = 0 then x * y % 12289 else 0)) 32 s → post (s, a2, a3, a4, a5, a6, a7, a8, a9, a10, a11, a12, b, a14, d)) : ∃ n, wX_multiplyByRoots_62 post (nI g) n 0 a1 a2 a3 a4 a5 a6 a7 a8 a9 a10 a11 a12 a13 a14 a15 := by
  have i0 : ∀ j, j < 64 → a13 j = nI (if j < 0 then x * y % 12289 else x) := fun j hj => by
    rw [if_neg (by omega)]
    exact h13 j hj
  refine pk_loop (fun n i s => wX_multiplyByRoots_62 post (nI g) n (nI i) a1 a2 a3 a4 a5 a6 a7 a8 a9 a10 a11 a12 s a14 a15) (fun i s => ∀ j, j < 64 → s j = nI (if j < i then x * y % 12289 else x)) 64 0 a13 (by omega) i0 ?_ ?_
  · intro n s h
    have k0 : ∀ j, j < 64 → s j = nI (zq_bw (x * y % 12289) 0 j) := fun j hj => by
      rw [h j hj, if_pos hj, zq_bw0 (zq_ml _)]
    have pz := zq_inv (u := 64) (by omega) (by omega)
    refine pk_le 64 64 (fun _ => zq_power g 63 6 hg (by decide) (by decide) ?_) (fun z => absurd z (by omega))
    refine zq_trans zq_bwOk k0 (fun b d hb => ?_)
    refine zq_power 64 12287 14 (by decide) (by decide) (by decide) ?_
    refine zq_128 (w := zq_bw (x * y % 12289) 6) (zq_pw_lt 14 1 64 12287 (by decide)) (zq_bwOk.1 6 (by decide)) hb (fun s' hs' => ?_)
    refine H s' b d ⟨fun j hj => ?_, hs'.2⟩
    rw [hs'.1 j hj]
    refine congrArg nI ?_
    by_cases e : j = 0
    · rw [if_pos e, e]
      show 64 * (x * y % 12289) % 12289 * zq_pw 14 1 64 12287 % 12289 = x * y % 12289
      rw [Nat.mod_mul_mod, Nat.mul_comm 64, Nat.mul_assoc, Nat.mul_mod, pz, Nat.mod_mod, Nat.mul_one, Nat.mod_mod]
    · have z : zq_bw (x * y % 12289) 6 j = 0 := if_neg (show ¬ j % 64 = 0 by omega)
      rw [if_neg e, z, Nat.zero_mul]
  · intro n i s hi h hw
    have e1 : s i = nI x := by
      rw [h i hi, if_neg (by omega)]
    have c1 : (nI i).toNatClampNeg = i := pk_cl i
    have q : s (nI i).toNatClampNeg * a14 (nI i).toNatClampNeg - s (nI i).toNatClampNeg * a14 (nI i).toNatClampNeg / 12289 * 12289 = nI (x * y % 12289) := by
      rw [c1, e1, h14 i hi]
      exact zq_rem (x * y) (zq_mb hx hy) (pk_mul x y)
    refine pk_le 64 i (fun z => absurd z (by omega)) (fun _ => ⟨pk_in i 64 hi, pk_in i 64 hi, by decide, pk_in i 64 hi, nm_r (by rw [q, c1]) (nm_r (nI_1 i) (hw (upd s i (nI (x * y % 12289))) (fun j hj => ?_)))⟩)
    by_cases e : j = i
    · rw [e, pk_us, if_pos (by omega)]
    · rw [pk_un e, h j hj]
      by_cases e2 : j < i
      · rw [if_pos e2, if_pos (by omega)]
      · rw [if_neg e2, if_neg (by omega)]
theorem zq_22 {post : St2 → Prop} {a1 a2 a3 a4 a5 a6 a7 a8 a9 a10 a11 a12 a13 a14 a15 : Nat → Int32} {r g x y : Nat} (hr : r < 12) (hg : g < 12289) (hx : x < 12289) (hy : y < 12289) (hR : zq_row a1 r 0 x) (h13 : ∀ j, j < 64 → a13 j = nI y)
    (H : ∀ s b c d, zq_F 5 a1 (fun j => nI (if j = 0 then x * y % 12289 else 0)) 32 s → post (s, a2, a3, a4, a5, a6, a7, a8, a9, a10, a11, a12, b, c, d)) : ∃ n, wX_multiplyByRoots_22 post (nI r) (nI g) n 0 a1 a2 a3 a4 a5 a6 a7 a8 a9 a10 a11 a12 a13 a14 a15 := by
  refine pk_loop (fun n i s => wX_multiplyByRoots_22 post (nI r) (nI g) n (nI i) a1 a2 a3 a4 a5 a6 a7 a8 a9 a10 a11 a12 a13 s a15) (fun i s => ∀ j, j < i → s j = nI y) 64 0 a14 (by omega) (fun j h => absurd h (by omega)) ?_ ?_
  · intro n s h
    refine pk_le 64 64 (fun _ => zq_load hr hR (fun b hb => ?_)) (fun z => absurd z (by omega))
    refine zq_trans (zq_fwOk hx) hb (fun b' d hb' => ?_)
    exact zq_62 hg hx hy (fun j hj => by rw [hb' j hj, zq_fw6 x hj]) h (fun s' b'' d' hs' => H s' b'' s d' hs')
  · intro n i s hi h hw
    have c1 : (nI i).toNatClampNeg = i := pk_cl i
    exact pk_le 64 i (fun z => absurd z (by omega)) (fun _ => ⟨pk_in i 64 hi, pk_in i 64 hi, nm_r (by rw [c1]) (nm_r (nI_1 i) (hw _ (zq_fill (f := fun _ => nI y) h (h13 i hi))))⟩)
theorem zq_roots {post : St2 → Prop} {a1 a2 a3 a4 a5 a6 a7 a8 a9 a10 a11 a12 a13 a14 a15 : Nat → Int32} {r q x y : Nat} (hr : r < 12) (hq : q < 12) (hx : x < 12289) (hy : y < 12289) (hR : zq_row a1 r 0 x) (hQ : zq_row a1 q 0 y)
    (H : ∀ s b c d, zq_F 5 a1 (fun j => nI (if j = 0 then x * y % 12289 else 0)) 32 s → post (s, a2, a3, a4, a5, a6, a7, a8, a9, a10, a11, a12, b, c, d)) : wpX_multiplyByRoots post (a1, a2, a3, a4, a5, a6, a7, a8, a9, a10, a11, a12, a13, a14, a15) (nI r) (nI q) := by
  unfold wpX_multiplyByRoots
  refine zq_power 11 192 8 (by decide) (by decide) (by decide) ?_
  refine zq_load hq hQ (fun b hb => ?_)
  refine zq_trans (zq_fwOk hy) hb (fun b' d hb' => ?_)
  exact zq_22 hr (zq_pw_lt 8 1 11 192 (by decide)) hx hy hR (fun j hj => by rw [hb' j hj, zq_fw6 y hj]) H
theorem zq_mul3 {post : St2 → Prop} {a1 a2 a3 a4 a5 a6 a7 a8 a9 a10 a11 a12 a13 a14 a15 : Nat → Int32} {r q x y : Nat} (hr : r < 12) (hq : q < 12) (hx : x < 12289) (hy : y < 12289) (hR : zq_row a1 r 0 x) (hQ : zq_row a1 q 0 y)
    (H : ∀ s b c d, zq_F 5 a1 (fun j => nI (if j = 0 then x * y % 12289 else 0)) 32 s → post (s, a2, a3, a4, a5, a6, a7, a8, a9, a10, a11, a12, b, c, d)) : wpX_multiplyRows post (a1, a2, a3, a4, a5, a6, a7, a8, a9, a10, a11, a12, a13, a14, a15) 3 (nI r) (nI q) :=
  br_f (by decide) (br_f (by decide) (br_f (by decide) (br_f (by decide) (br_f (by decide) (br_t rfl (zq_roots hr hq hx hy hR hQ H))))))
/-! the inverse of a row with one number, at place 0 -/
theorem zq_68 {post : St2 → Prop} {J J' : Int32 → (Nat → Int32) → (Nat → Int32) → (Nat → Int32) → (Nat → Int32) → (Nat → Int32) → (Nat → Int32) → (Nat → Int32) → (Nat → Int32) → (Nat → Int32) → (Nat → Int32) → (Nat → Int32) → (Nat → Int32) → (Nat → Int32) → (Nat → Int32) → (Nat → Int32) → Prop} {a1 a2 a3 a4 a5 a6 a7 a8 a9 a10 a11 a12 a13 a14 a15 : Nat → Int32} {x1 x3 : Int32} {i z v : Nat} (hi : i < 32) (hz : z < 12289) (hv : v < 12289) (h : a1 (5 * 32 + i) = nI v)
    (H : J' (nI (i + 1)) (upd a1 (8 * 32 + i) (nI ((z + 12289 - v) % 12289))) a2 a3 a4 a5 a6 a7 a8 a9 a10 a11 a12 a13 a14 a15) : wX_invertRow_68 post J J' x1 x3 (nI i) (nI z) a1 a2 a3 a4 a5 a6 a7 a8 a9 a10 a11 a12 a13 a14 a15 := by
  have e : 160 + nI i = nI (5 * 32 + i) := by
    rw [show (160 : Int32) = nI (5 * 32) from rfl, nI_add]
  refine ⟨pk_in (5 * 32 + i) 384 (by omega) e, ?_⟩
  rw [pk_cl (5 * 32 + i) e, h]
  exact zq_minus z v hz hv (zq_write (r := 8) (by omega) (nm_r (nI_1 i) H))
theorem zq_51 {post : St2 → Prop} {J : Int32 → (Nat → Int32) → (Nat → Int32) → (Nat → Int32) → (Nat → Int32) → (Nat → Int32) → (Nat → Int32) → (Nat → Int32) → (Nat → Int32) → (Nat → Int32) → (Nat → Int32) → (Nat → Int32) → (Nat → Int32) → (Nat → Int32) → (Nat → Int32) → (Nat → Int32) → Prop} {a1 a2 a3 a4 a5 a6 a7 a8 a9 a10 a11 a12 a13 a14 a15 : Nat → Int32} {x1 x3 y3 : Int32} {f : Nat} (hf : f < 12289) (h5 : zq_row a1 5 0 1) (h7 : zq_row a1 7 0 f) (hy : x3 * 2 = y3)
    (H : ∀ s b c d, zq_row s 7 0 f → (∀ k, k < 160 → s k = a1 k) → J y3 s a2 a3 a4 a5 a6 a7 a8 a9 a10 a11 a12 b c d) : ∃ n, wX_invertRow_51 post J x1 x3 n 0 a1 a2 a3 a4 a5 a6 a7 a8 a9 a10 a11 a12 a13 a14 a15 := by
  refine pk_loop (fun n i s => wX_invertRow_51 post J x1 x3 n (nI i) s a2 a3 a4 a5 a6 a7 a8 a9 a10 a11 a12 a13 a14 a15) (fun i s => zq_F 8 a1 (fun j => nI (if j = 0 then 1 else 0)) i s) 32 0 a1 (by omega) zq_F0 ?_ ?_
  · intro n s h
    have r8 : zq_row s 8 0 1 := h.1
    have r7 : zq_row s 7 0 f := fun j hj => by
      rw [h.2 (7 * 32 + j) (by omega)]
      exact h7 j hj
    refine pk_le 32 32 (fun _ => zq_mul3 (r := 8) (q := 7) (by omega) (by omega) (by omega) hf r8 r7 (fun s1 b c d h1 => ?_)) (fun z => absurd z (by omega))
    refine zq_copy (p := 5) (q := 7) (by omega) (by omega) (by omega) (fun s2 h2 => nm_r hy (H s2 b c d (fun j hj => ?_) (fun k hk => ?_)))
    · have w1 : s2 (7 * 32 + j) = s1 (5 * 32 + j) := h2.1 j hj
      have w2 : s1 (5 * 32 + j) = nI (if j = 0 then 1 * f % 12289 else 0) := h1.1 j hj
      rw [w1, w2, Nat.one_mul, Nat.mod_eq_of_lt hf]
    · rw [h2.2 k (by omega), h1.2 k (by omega), h.2 k (by omega)]
  · intro n i s hi h hw
    have v5 : s (5 * 32 + i) = nI (if i = 0 then 1 else 0) := by
      rw [h.2 (5 * 32 + i) (by omega)]
      exact h5 i hi
    refine pk_le 32 i (fun z => absurd z (by omega)) (fun _ => pk_eq i 0 (fun z => ?_) (fun z => ?_))
    · rw [if_pos z] at v5
      exact zq_68 (z := 2) hi (by omega) (by omega) v5 (hw _ (zq_Fs hi h (by rw [if_pos z])))
    · rw [if_neg z] at v5
      exact zq_68 (z := 0) hi (by omega) (by omega) v5 (hw _ (zq_Fs hi h (by rw [if_neg z])))
theorem zq_34 {post : St2 → Prop} {a1 a2 a3 a4 a5 a6 a7 a8 a9 a10 a11 a12 a13 a14 a15 : Nat → Int32} {r u f : Nat} (hr : r < 5) (hu : u < 12289) (hf : f < 12289) (huf : u * f % 12289 = 1) (hR : zq_row a1 r 0 u) (h7 : zq_row a1 7 0 f)
    (H : ∀ s b c d, zq_row s 7 0 f → (∀ k, k < 160 → s k = a1 k) → post (s, a2, a3, a4, a5, a6, a7, a8, a9, a10, a11, a12, b, c, d)) : ∃ n, wX_invertRow_34 post (nI r) n 1 a1 a2 a3 a4 a5 a6 a7 a8 a9 a10 a11 a12 a13 a14 a15 := by
  refine pk_loop (fun n k (s : (Nat → Int32) × (Nat → Int32) × (Nat → Int32) × (Nat → Int32)) => wX_invertRow_34 post (nI r) n (nI (2 ^ k)) s.1 a2 a3 a4 a5 a6 a7 a8 a9 a10 a11 a12 s.2.1 s.2.2.1 s.2.2.2) (fun k s => zq_row s.1 7 0 f ∧ (∀ k, k < 160 → s.1 k = a1 k)) 5 0 (a1, a13, a14, a15) (by omega) ⟨h7, fun _ _ => rfl⟩ ?_ ?_
  · intro n s h
    exact pk_le 32 (2 ^ 5) (fun _ => H s.1 s.2.1 s.2.2.1 s.2.2.2 h.1 h.2) (fun z => absurd z (by decide))
  · intro n k s hk h hw
    have p1 : 2 ^ k < 32 := (show ∀ k, k < 5 → 2 ^ k < 32 by decide) k hk
    have rr : zq_row s.1 r 0 u := fun j hj => by
      rw [h.2 (r * 32 + j) (by omega)]
      exact hR j hj
    refine pk_le 32 (2 ^ k) (fun z => absurd z (by omega)) (fun _ => zq_mul3 (q := 7) (by omega) (by omega) hu hf rr h.1 (fun s1 b c d h1 => ?_))
    rw [huf] at h1
    have r5 : zq_row s1 5 0 1 := h1.1
    have r7 : zq_row s1 7 0 f := fun j hj => by
      rw [h1.2 (7 * 32 + j) (by omega)]
      exact h.1 j hj
    refine zq_51 hf r5 r7 (y3 := nI (2 ^ (k + 1))) (by rw [show (2 : Int32) = nI 2 from rfl, pk_mul, Nat.pow_succ]) (fun s2 b2 c2 d2 h2 k2 => ?_)
    exact hw (s2, b2, c2, d2) ⟨h2, fun j hj => by
      show s2 j = a1 j
      rw [k2 j hj, h1.2 j (by omega), h.2 j hj]⟩
theorem zq_invRow {post : St2 → Prop} {a1 a2 a3 a4 a5 a6 a7 a8 a9 a10 a11 a12 a13 a14 a15 : Nat → Int32} {r u : Nat} (hr : r < 5) (h0 : 0 < u) (hu : u < 12289) (hR : zq_row a1 r 0 u)
    (H : ∀ s b c d, zq_row s 7 0 (zq_pw 14 1 u 12287) → (∀ k, k < 160 → s k = a1 k) → post (s, a2, a3, a4, a5, a6, a7, a8, a9, a10, a11, a12, b, c, d)) : wpX_invertRow post (a1, a2, a3, a4, a5, a6, a7, a8, a9, a10, a11, a12, a13, a14, a15) (nI r) := by
  unfold wpX_invertRow
  have e : nI r * 32 + 0 = nI (r * 32) := zq_ad r 0
  refine zq_clear (r := 7) (by omega) (fun s h => ⟨pk_in (r * 32) 384 (by omega) e, ?_⟩)
  have v : s (nI r * 32 + 0).toNatClampNeg = nI u := by
    rw [pk_cl (r * 32) e, h.2 (r * 32) (by omega)]
    exact hR 0 (by omega)
  rw [v]
  refine zq_power u 12287 14 hu (by decide) (by decide) ?_
  refine zq_write (r := 7) (i := 0) (by omega) ?_
  have hf := zq_pw_lt 14 1 u 12287 (by decide)
  have kk : ∀ k, k < 160 → upd s (7 * 32 + 0) (nI (zq_pw 14 1 u 12287)) k = a1 k := fun k hk => by
    rw [pk_un (by omega), h.2 k (by omega)]
  refine zq_34 (u := u) hr hu hf (zq_inv h0 hu) (fun j hj => ?_) (fun j hj => ?_) (fun s2 b c d h2 k2 => H s2 b c d h2 (fun k hk => by rw [k2 k hk, kk k hk]))
  · rw [kk (r * 32 + j) (by omega)]
    exact hR j hj
  · by_cases e : j = 0
    · rw [e, pk_us, if_pos rfl]
    · rw [pk_un (by omega), h.1 j hj, if_neg e]
      rfl
theorem zq_invS {post : Int32 → St2 → Prop} {a1 a2 a3 a4 a5 a6 a7 a8 a9 a10 a11 a12 a13 a14 a15 : Nat → Int32} {s : Int32} (h : s < 0 ∨ 5 ≤ s) (H : post 0 (a1, a2, a3, a4, a5, a6, a7, a8, a9, a10, a11, a12, a13, a14, a15)) : wpX_invert post (a1, a2, a3, a4, a5, a6, a7, a8, a9, a10, a11, a12, a13, a14, a15) s := by
  unfold wpX_invert
  exact zq_sF h (br_t rfl H)
theorem zq_inv0 {post : Int32 → St2 → Prop} {a1 a2 a3 a4 a5 a6 a7 a8 a9 a10 a11 a12 a13 a14 a15 : Nat → Int32} {r : Nat} (hr : r < 5) (h : a1 (r * 32 + 0) = 0) (H : post 0 (a1, a2, a3, a4, a5, a6, a7, a8, a9, a10, a11, a12, a13, a14, a15)) : wpX_invert post (a1, a2, a3, a4, a5, a6, a7, a8, a9, a10, a11, a12, a13, a14, a15) (nI r) := by
  unfold wpX_invert
  exact zq_sT hr (br_f (by decide) (zq_cell (i := 0) (by omega) (br_t h H)))
theorem zq_invT {post : Int32 → St2 → Prop} {a1 a2 a3 a4 a5 a6 a7 a8 a9 a10 a11 a12 a13 a14 a15 : Nat → Int32} {r u : Nat} (hr : r < 5) (h0 : 0 < u) (hu : u < 12289) (hR : zq_row a1 r 0 u)
    (H : ∀ s b c d, s (r * 32 + 0) = nI (zq_pw 14 1 u 12287) → post 1 (s, a2, a3, a4, a5, a6, a7, a8, a9, a10, a11, a12, b, c, d)) : wpX_invert post (a1, a2, a3, a4, a5, a6, a7, a8, a9, a10, a11, a12, a13, a14, a15) (nI r) := by
  unfold wpX_invert
  have v : ¬ a1 (r * 32 + 0) = 0 := by
    rw [hR 0 (by omega), if_pos rfl]
    exact nI_ne0 h0 (by omega)
  refine zq_sT hr (br_f (by decide) (zq_cell (i := 0) (by omega) (br_f v ?_)))
  refine zq_invRow hr h0 hu hR (fun s b c d h7 _ => ?_)
  refine zq_copy (p := 7) (by omega) (by omega) (by omega) (fun s2 h2 => H s2 b c d ?_)
  rw [h2.1 0 (by omega)]
  show s (7 * 32 + 0) = _
  rw [h7 0 (by omega), if_pos rfl]
end
section
/-! the law's checks, from the last to the first -/
theorem zq_n4 {s : Int32} (h : 5 ≤ s) : 4 < s := Int32.not_le.mp (fun z => absurd (Int32.le_trans h z) (by decide))
theorem zq_n31 {s : Int32} (h : 32 ≤ s) : ¬ s ≤ 31 := fun z => absurd (Int32.le_trans h z) (by decide)
theorem zq_tailA {post : Int32 → St0 → Prop} {mc ms kc ks : Nat} {i v x j : Int32} (H : post 1 ()) : wL_lawOf_76 post mc ms i v x j 0 (-2) (-2) (-2) 0 (-2) kc ks := by
  refine br_t rfl ?_
  unfold wL_lawOf_98 wL_lawOf_99
  refine zq_modx v ?_
  refine br_t rfl (br_t rfl (br_t rfl (br_t rfl ?_)))
  refine br_t rfl (br_t rfl ?_)
  refine br_t rfl (br_t rfl ?_)
  exact br_t rfl (br_t rfl (br_t rfl (br_t rfl H)))
theorem zq_tailB2 {post : Int32 → St0 → Prop} {mc ms kc ks u : Nat} {i x z : Int32} (H : post 1 ()) : wL_lawOf_189 post mc ms i x (-1) 0 0 0 1 0 (nI u) 0 0 z z kc ks := by
  refine br_t rfl (br_f (by decide) (br_t rfl ?_))
  refine br_t rfl (br_f (by decide) (br_t rfl ?_))
  refine br_t rfl (br_t rfl (br_f (by decide) (br_t rfl (br_t rfl ?_))))
  exact br_t rfl H
theorem zq_tailB {post : Int32 → St0 → Prop} {mc ms kc ks : Nat} {i v x j got : Int32} (hi : i < 0 ∨ 32 ≤ i) (hg : ((j < 0 ∨ 32 ≤ j) ∧ got = -2) ∨ (∃ m, m < 32 ∧ j = nI m ∧ got = 0)) (H : post 1 ()) : wL_lawOf_77 post mc ms i v x j 0 got (-1) 0 0 0 1 kc ks := by
  have g : wL_lawOf_98 post mc ms i v x j 0 got (-1) 0 0 0 1 kc ks := by
    unfold wL_lawOf_98 wL_lawOf_99
    refine zq_modx v ?_
    refine br_t rfl (br_t rfl (br_t rfl (br_f (by decide) ?_)))
    rcases hg with ⟨h1, h2⟩ | ⟨m, h1, h2, h3⟩
    · subst h2
      by_cases n : j < 0
      · exact br_t n (zq_tailB2 H)
      · exact br_f n (br_f (zq_n31 (h1.resolve_left n)) (zq_tailB2 H))
    · subst h2 h3
      exact br_f (nI_pos (by omega)) (br_t (nI_le (b := 31) (by omega) (by omega)) (br_t rfl (zq_tailB2 H)))
  refine br_f (by decide) ?_
  by_cases n : i < 0
  · exact br_t n g
  · exact br_f n (br_t (Int32.not_le.mp (zq_n31 (hi.resolve_left n))) g)
/-- what the inversion is to answer, and the first number after it -/
def zq_fin (k u : Nat) (t first : Int32) : Prop := (t = 0 ∧ first = 0 ∧ (k = 0 → u = 0)) ∨ (t = 1 ∧ ∃ f, f < 12289 ∧ first = nI f ∧ f * u % 12289 = 1)
theorem zq_251 {post : Int32 → St0 → Prop} {mc ms kc ks k u : Nat} {t first z : Int32} (hk : k < 32) (hu : u < 12289) (hf : zq_fin k u t first) (H : post 1 ()) : wL_lawOf_251 post mc ms (nI k) t first 1 1 (nI u) t z z kc ks := by
  refine br_t rfl (br_t rfl (br_f (by decide) ?_))
  rcases hf with ⟨h1, h2, h3⟩ | ⟨h1, f, h2, h3, h4⟩
  · subst h1 h2
    refine br_t rfl (br_f (by decide) (pk_eq k 0 (fun e => ?_) (fun _ => br_t rfl H)))
    rw [h3 e]
    exact br_t rfl H
  · subst h1 h3
    refine br_f (by decide) (zq_modm f u h2 hu ?_)
    rw [h4]
    exact br_t rfl H
theorem zq_214 {post : Int32 → St0 → Prop} {mc ms kc ks k u : Nat} {x t first z : Int32} (hk : k < 32) (hu : u < 12289) (hf : zq_fin k u t first) (H : post 1 ()) : wL_lawOf_214 post mc ms (nI k) x (nI (u * zq_md x ^ k % 12289)) t first 1 1 (nI u) t z z kc ks := by
  refine br_t rfl (br_f (by decide) (br_f (by decide) (zq_lpow x hk (zq_modm u _ hu (zq_ml _) ?_))))
  rw [Nat.mul_mod_mod]
  exact zq_251 hk hu hf H
theorem zq_189 {post : Int32 → St0 → Prop} {mc ms kc ks k u : Nat} {x t first z d sm : Int32} (hk : k < 32) (hu : u < 12289) (hf : zq_fin k u t first) (hd : (sm = 0 ∧ d = -1) ∨ (sm = 1 ∧ d = nI k)) (H : post 1 ()) : wL_lawOf_189 post mc ms (nI k) x d (nI (u * zq_md x ^ k % 12289)) t first 1 1 (nI u) sm t z z kc ks := by
  refine br_t rfl (br_f (by decide) ?_)
  rcases hd with ⟨h1, h2⟩ | ⟨h1, h2⟩
  · subst h1 h2
    exact br_t rfl (zq_214 hk hu hf H)
  · subst h1 h2
    exact br_f (by decide) (zq_214 hk hu hf H)
theorem zq_139 {post : Int32 → St0 → Prop} {mc ms kc ks k u : Nat} {x t first j got d sm : Int32} (hk : k < 32) (hu : u < 12289) (hf : zq_fin k u t first) (hd : (sm = 0 ∧ d = -1) ∨ (sm = 1 ∧ d = nI k))
    (hg : ((j < 0 ∨ 32 ≤ j) ∧ got = -2) ∨ (∃ m, m < 32 ∧ j = nI m ∧ got = nI (if m = k then u else 0))) (H : post 1 ()) : wL_lawOf_139 post mc ms (nI k) x j 1 got d (nI (u * zq_md x ^ k % 12289)) t first 1 1 (nI u) sm t kc ks := by
  refine br_t rfl (br_f (by decide) ?_)
  rcases hg with ⟨h1, h2⟩ | ⟨m, h1, h2, h3⟩
  · subst h2
    by_cases n : j < 0
    · exact br_t n (zq_189 hk hu hf hd H)
    · exact br_f n (br_f (zq_n31 (h1.resolve_left n)) (zq_189 hk hu hf hd H))
  · subst h2 h3
    refine br_f (nI_pos (by omega)) (br_t (nI_le (b := 31) (by omega) (by omega)) (br_f (by decide) (pk_eq k m (fun e => ?_) (fun e => ?_))))
    · rw [if_pos e.symm]
      exact zq_189 hk hu hf hd H
    · rw [if_neg (fun z => e z.symm)]
      exact zq_189 hk hu hf hd H
theorem zq_tailC {post : Int32 → St0 → Prop} {mc ms kc ks k : Nat} {v x t first j got d : Int32} (hk : k < 32) (hf : zq_fin k (zq_md v) t first) (ht : (k = 0 ∧ zq_md v ≠ 0 ∧ t = 1) ∨ (¬ (k = 0 ∧ zq_md v ≠ 0) ∧ t = 0)) (hd : (zq_md v = 0 ∧ d = -1) ∨ (zq_md v ≠ 0 ∧ d = nI k))
    (hg : ((j < 0 ∨ 32 ≤ j) ∧ got = -2) ∨ (∃ m, m < 32 ∧ j = nI m ∧ got = nI (if m = k then zq_md v else 0))) (H : post 1 ()) : wL_lawOf_77 post mc ms (nI k) v x j 1 got d (nI (zq_md v * zq_md x ^ k % 12289)) t first 1 kc ks := by
  have hu := zq_md_lt v
  refine br_f (by decide) (br_f (nI_pos (by omega)) (br_f (nI_nlt (b := k) (a := 31) (by omega) (by omega)) (zq_modx v (br_f (by decide) ?_))))
  refine pk_eq (zq_md v) 0 (fun e => ?_) (fun e => ?_)
  · have t0 : t = 0 := ht.elim (fun q => absurd e q.2.1) (fun q => q.2)
    have d0 : d = -1 := hd.elim (fun q => q.2) (fun q => absurd e q.1)
    subst t0
    exact br_t rfl (zq_139 hk hu hf (Or.inl ⟨rfl, d0⟩) hg H)
  · have d0 : d = nI k := hd.elim (fun q => absurd q.1 e) (fun q => q.2)
    refine br_f (by decide) (pk_eq k 0 (fun e2 => ?_) (fun e2 => ?_))
    · have t0 : t = 1 := ht.elim (fun q => q.2.2) (fun q => absurd ⟨e2, e⟩ q.1)
      subst t0
      exact zq_139 hk hu hf (Or.inr ⟨rfl, d0⟩) hg H
    · have t0 : t = 0 := ht.elim (fun q => absurd q.1 e2) (fun q => q.2)
      subst t0
      exact zq_139 hk hu hf (Or.inr ⟨rfl, d0⟩) hg H
theorem zq_0row (r : Nat) : zq_row (fun _ => 0) r 0 0 := fun j _ => by
  show (0 : Int32) = _
  split <;> rfl
theorem zq_1row (r k u : Nat) : zq_row (upd (fun _ => 0) (r * 32 + k) (nI u)) r k u := fun j _ => by
  by_cases e : j = k
  · rw [e, pk_us, if_pos rfl]
  · rw [pk_un (by omega), if_neg e]
    rfl
/-! the calls on a row with one number, all answers at once -/
theorem zq_coG {post : Int32 → Prop} {a1 a2 a3 a4 a5 a6 a7 a8 a9 a10 a11 a12 a13 a14 a15 : Nat → Int32} {r k u : Nat} {j : Int32} (hr : r < 5) (hR : zq_row a1 r k u) (gj : (j < 0 ∨ 32 ≤ j) ∨ ∃ m, m < 32 ∧ j = nI m)
    (H : ∀ got, (((j < 0 ∨ 32 ≤ j) ∧ got = -2) ∨ (∃ m, m < 32 ∧ j = nI m ∧ got = nI (if m = k then u else 0))) → post got) : wpX_coefficient post (a1, a2, a3, a4, a5, a6, a7, a8, a9, a10, a11, a12, a13, a14, a15) (nI r) j := by
  rcases gj with hj | ⟨m, hm, rfl⟩
  · exact zq_coP hr hj (H _ (Or.inl ⟨hj, rfl⟩))
  · exact zq_coT hr hm (H _ (Or.inr ⟨m, hm, rfl, hR m hm⟩))
theorem zq_degG {post : Int32 → Prop} {a1 a2 a3 a4 a5 a6 a7 a8 a9 a10 a11 a12 a13 a14 a15 : Nat → Int32} {r i c : Nat} (hr : r < 5) (hi : i < 32) (hc : c < 12289) (hR : zq_row a1 r i c) (H : ∀ d, ((c = 0 ∧ d = -1) ∨ (c ≠ 0 ∧ d = nI i)) → post d) : wpX_degree post (a1, a2, a3, a4, a5, a6, a7, a8, a9, a10, a11, a12, a13, a14, a15) (nI r) :=
  zq_degT hr hi hc hR (fun z => H _ (Or.inl ⟨z, rfl⟩)) (fun z => H _ (Or.inr ⟨z, rfl⟩))
theorem zq_invG {post : Int32 → St2 → Prop} {a1 a2 a3 a4 a5 a6 a7 a8 a9 a10 a11 a12 a13 a14 a15 : Nat → Int32} {r k u : Nat} (hr : r < 5) (hk : k < 32) (hu : u < 12289) (hR : zq_row a1 r k u)
    (H : ∀ t s b c d, zq_fin k u t (s (r * 32 + 0)) → ((k = 0 ∧ u ≠ 0 ∧ t = 1) ∨ (¬ (k = 0 ∧ u ≠ 0) ∧ t = 0)) → post t (s, a2, a3, a4, a5, a6, a7, a8, a9, a10, a11, a12, b, c, d)) : wpX_invert post (a1, a2, a3, a4, a5, a6, a7, a8, a9, a10, a11, a12, a13, a14, a15) (nI r) := by
  by_cases g : k = 0 ∧ u ≠ 0
  · obtain ⟨g1, g2⟩ := g
    subst g1
    refine zq_invT hr (by omega) hu hR (fun s b c d hs => H 1 s b c d (Or.inr ⟨rfl, _, zq_pw_lt 14 1 u 12287 (by decide), hs, ?_⟩) (Or.inl ⟨rfl, g2, rfl⟩))
    rw [Nat.mul_comm]
    exact zq_inv (by omega) hu
  · have z : a1 (r * 32 + 0) = 0 := by
      rw [hR 0 (by omega)]
      by_cases e : 0 = k
      · rw [if_pos e, show u = 0 by omega]
        rfl
      · rw [if_neg e]
        rfl
    exact zq_inv0 hr z (H 0 a1 a13 a14 a15 (Or.inl ⟨rfl, z, fun e => by omega⟩) (Or.inr ⟨g, rfl⟩))
end
section
theorem zq_lawOf {post : Int32 → St0 → Prop} {mc ms : Nat} (hc : 16 ≤ mc) (hs : 2635 ≤ ms) (s i v x j : Int32) (H : post 1 ()) : wpL_lawOf post mc ms () s i v x j := by
  refine ⟨by omega, by omega, 15, 2620, by omega, by omega, zq_init (by omega) (by omega) (fun c2 c3 c4 => ?_)⟩
  have bad : ∀ h : s < 0 ∨ 5 ≤ s, (s < 0 → wL_lawOf_76 post mc ms i v x j 0 (-2) (-2) (-2) 0 (-2) (1 + 15) (15 + 2620)) ∧ (¬ s < 0 → (4 < s → wL_lawOf_76 post mc ms i v x j 0 (-2) (-2) (-2) 0 (-2) (1 + 15) (15 + 2620)) ∧ (¬ 4 < s → wL_lawOf_77 post mc ms i v x j 0 (-2) (-2) (-2) 0 (-2) 1 (1 + 15) (15 + 2620))) := by
    intro h
    by_cases n : s < 0
    · exact br_t n (zq_tailA H)
    · exact br_f n (br_t (zq_n4 (h.resolve_left n)) (zq_tailA H))
  have gs : (s < 0 ∨ 5 ≤ s) ∨ ∃ r, r < 5 ∧ s = nI r := by
    rcases pk_ix s (n := 5) (by omega) with h | h | h
    · exact Or.inl (Or.inl h)
    · exact Or.inl (Or.inr h)
    · exact Or.inr h
  have gi : (i < 0 ∨ 32 ≤ i) ∨ ∃ k, k < 32 ∧ i = nI k := by
    rcases pk_ix i (n := 32) (by omega) with h | h | h
    · exact Or.inl (Or.inl h)
    · exact Or.inl (Or.inr h)
    · exact Or.inr h
  have gj : (j < 0 ∨ 32 ≤ j) ∨ ∃ m, m < 32 ∧ j = nI m := by
    rcases pk_ix j (n := 32) (by omega) with h | h | h
    · exact Or.inl (Or.inl h)
    · exact Or.inl (Or.inr h)
    · exact Or.inr h
  rcases gs with h | ⟨r, hr, rfl⟩
  · exact zq_setS h (zq_coS h (zq_degS h (zq_valS h (zq_invS h (zq_coS h (bad h))))))
  · clear bad
    rcases gi with hi | ⟨k, hk, rfl⟩
    · refine zq_setP hr hi ?_
      have go : ∀ got, (((j < 0 ∨ 32 ≤ j) ∧ got = -2) ∨ (∃ m, m < 32 ∧ j = nI m ∧ got = 0)) → (nI r < 0 → wL_lawOf_76 post mc ms i v x j 0 got (-1) 0 0 0 (1 + 15) (15 + 2620)) ∧ (¬ nI r < 0 → (4 < nI r → wL_lawOf_76 post mc ms i v x j 0 got (-1) 0 0 0 (1 + 15) (15 + 2620)) ∧ (¬ 4 < nI r → wL_lawOf_77 post mc ms i v x j 0 got (-1) 0 0 0 1 (1 + 15) (15 + 2620))) :=
        fun got hg => br_f (nI_pos (by omega)) (br_f (nI_nlt (b := r) (a := 4) (by omega) (by omega)) (zq_tailB hi hg H))
      have v0 : nI (0 * zq_md x ^ 0 % 12289) = 0 := by
        rw [Nat.zero_mul]
        rfl
      rcases gj with hj | ⟨m, hm, rfl⟩
      · refine zq_coP hr hj (zq_degT hr (i := 0) (by omega) (by omega) (zq_0row r) (fun _ => ?_) (fun q => absurd rfl q))
        refine zq_valT hr (i := 0) (c := 0) (by omega) (by omega) (zq_0row r) ?_
        rw [v0]
        exact zq_inv0 hr rfl (zq_coT (i := 0) hr (by omega) (go _ (Or.inl ⟨hj, rfl⟩)))
      · refine zq_coT hr hm (zq_degT hr (i := 0) (by omega) (by omega) (zq_0row r) (fun _ => ?_) (fun q => absurd rfl q))
        refine zq_valT hr (i := 0) (c := 0) (by omega) (by omega) (zq_0row r) ?_
        rw [v0]
        exact zq_inv0 hr rfl (zq_coT (i := 0) hr (by omega) (go _ (Or.inr ⟨m, hm, rfl, rfl⟩)))
    · refine zq_setT hr hk ?_
      have hu := zq_md_lt v
      have hR := zq_1row r k (zq_md v)
      refine zq_coG hr hR gj (fun got hg => zq_degG hr hk hu hR (fun d hd => zq_valT hr hk hu hR (zq_invG hr hk hu hR (fun t s b c e hf ht => zq_coT (i := 0) hr (by omega) ?_))))
      exact br_f (nI_pos (by omega)) (br_f (nI_nlt (b := r) (a := 4) (by omega) (by omega)) (zq_tailC hk hf ht hd hg H))
theorem zq_cellAt {post : Int32 → Prop} {xs : Nat → Int32} {L : Nat} (hL : L ≤ 5) (k : Nat) (hk : k < 5) (H : ∀ v, post v) : wpL_cellAt post L xs () (nI k) :=
  pk_le L k (fun _ => H 0) (fun z => ⟨pk_in k L z, H _⟩)
theorem i_vc (xs : Nat → Int32) (L : Nat) (hL : L ≤ 5) : wpL_law (fun r => r = 1) L xs :=
  zq_cellAt hL 0 (by omega) (fun s => zq_cellAt hL 1 (by omega) (fun i => zq_cellAt hL 2 (by omega) (fun v => zq_cellAt hL 3 (by omega) (fun x => zq_cellAt hL 4 (by omega) (fun j => ⟨1352, 21632, by omega, by omega, zq_lawOf (by omega) (by omega) s i v x j rfl⟩)))))
end
