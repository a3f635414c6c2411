section
/-! ===== numbers ===== -/
theorem tl_lin (c a b : Nat) {C : Int32} (hC : C = nI c := by rfl) : C * nI a + nI b = nI (c * a + b) := by
  rw [hC, pk_mul, nI_add]
theorem tl_mulc (c a : Nat) {C : Int32} (hC : C = nI c := by rfl) : C * nI a = nI (c * a) := by
  rw [hC, pk_mul]
theorem tl_addc (c a : Nat) {C : Int32} (hC : C = nI c := by rfl) : C + nI a = nI (c + a) := by
  rw [hC, nI_add]
theorem tl_sub1 {n : Nat} (h : 1 ≤ n) : nI n - 1 = nI (n - 1) := pk_sub (a := n) (b := 1) h
theorem tl_sub2 {n i : Nat} (h : i + 1 ≤ n) : nI n - 1 - nI i = nI (n - 1 - i) := by
  rw [tl_sub1 (by omega), pk_sub (by omega)]
theorem tl_at (a : Nat → Int32) {x : Int32} (n : Nat) (hx : x = nI n) (h : n < 2 ^ 31) : a x.toNatClampNeg = a n :=
  congrArg a (pk_cl n hx h)
theorem tl_sm : ∀ p, p < 32 → ((nI p &&& 31).toBitVec.smod 32).toNat = p := by decide +kernel
theorem tl_lt2 (x : Nat) : x % 2 < 2 ^ 31 := Nat.lt_trans (Nat.mod_lt x (by decide)) (by decide)
theorem tl_bit {s p : Nat} (hs : s < 2 ^ 31) (hp : p < 32) : ((nI s >>> (nI p &&& 31)) &&& 1) = nI (s / 2 ^ p % 2) := by
  rw [pk_shrN hs (nI p &&& 31) p (tl_sm p hp)]
  exact pk_andN (Nat.lt_of_le_of_lt (Nat.div_le_self s (2 ^ p)) (by omega)) 1 (by decide)
theorem tl_and3 {k : Nat} (h : k < 2 ^ 31) : nI k &&& 3 = nI (k % 4) := pk_andN (by omega) 2 (by decide)
theorem tl_shr2 {k : Nat} (h : k < 2 ^ 31) : nI k >>> ((2 : Int32) &&& 31) = nI (k / 4) := pk_shrN h _ 2 (by decide)
theorem tl_lo {x : Nat} (h : x < 2 ^ 31) : nI x &&& 15 = nI (x % 16) := pk_andN (by omega) 4 (by decide)
theorem tl_hi {x : Nat} (h : x < 2 ^ 31) : nI x >>> ((4 : Int32) &&& 31) = nI (x / 16) := pk_shrN h _ 4 (by decide)
theorem tl_or16 : ∀ a, a < 16 → ∀ b, b < 16 → nI a ||| nI b = nI (a ||| b) ∧ a ||| b < 16 := by decide +kernel
theorem tl_and16 : ∀ a, a < 16 → ∀ b, b < 16 → nI a &&& nI b = nI (a &&& b) ∧ a &&& b < 16 := by decide +kernel
theorem tl_pr16 : ∀ a, a < 16 → ∀ b, b < 16 → nI a ||| (nI b <<< ((4 : Int32) &&& 31)) = nI (a + 16 * b) := by decide +kernel
theorem tl_b8 : ∀ x, x < 128 → (nI x).toInt8.toInt32 = nI x := by decide +kernel
theorem tl_s16 : ∀ x, x < 512 → (nI x).toInt16.toInt32 = nI x := by decide +kernel
theorem tl_nar {x : Nat} (h : x < 128) : vp_nar .byte (nI x) = nI x := (vp_nar_byte _).trans (tl_b8 x h)
theorem tl_one_ne : ¬ (1 : Int32) = 0 := by decide
/-! ===== the table of all trees ===== -/
def tl_tt (n : Nat) : Nat := [0, 2, 2, 6, 14, 42, 122, 382, 1206, 3922, 12914, 43190, 145950].getD n 0
def tl_ps (n : Nat) : Nat → Nat
  | 0 => tl_tt (n - 1)
  | i + 1 => tl_ps n i + tl_tt i * tl_tt (n - 1 - i)
theorem tl_ps1 (n : Nat) : tl_ps n 1 = tl_tt (n - 1) := by
  show tl_tt (n - 1) + tl_tt 0 * tl_tt (n - 1 - 0) = tl_tt (n - 1)
  rw [show tl_tt 0 = 0 from rfl, Nat.zero_mul, Nat.add_zero]
theorem tl_psE : ∀ n, n < 13 → 2 ≤ n → tl_ps n (n - 1) = tl_tt n := by decide +kernel
/-! ===== the constructor ===== -/
theorem tl_init198 {post : St2 → Prop} {mc ms kc ks n : Nat} {J : Int32 → (Nat → Int32) → (Nat → Int32) → (Nat → Int32) → (Nat → Int32) → (Nat → Int32) → (Nat → Int32) → (Nat → Int32) → (Nat → Int32) → (Nat → Int32) → (Nat → Int32) → (Nat → Int32) → (Nat → Int32) → (Nat → Int32) → (Nat → Int32) → (Nat → Int32) → (Nat → Int32) → (Nat → Int32) → (Nat → Int32) → (Nat → Int32) → (Nat → Int32) → (Nat → Int32) → Prop} {fm fh fk fl ff fc ft : Int32} {a1 a2 a3 a4 a5 a6 a7 a8 a9 a10 a11 a12 a13 a14 a15 a16 a17 a18 a19 a20 a21 : Nat → Int32} {x0 : Int32} (hn : 2 ≤ n) (hn2 : n ≤ 12) (h : ∀ j, j < n → a15 j = nI (tl_tt j)) (hx0 : x0 = nI (tl_tt (n - 1)))
    (H : J (nI (n + 1)) a1 a2 a3 a4 a5 a6 a7 a8 a9 a10 a11 a12 a13 a14 (upd a15 n (nI (tl_tt n))) a16 a17 a18 a19 a20 a21) : ∃ fu, wX_init_198 post mc ms J (nI n) kc ks fm fh fk fl ff fc ft a1 a2 a3 a4 a5 a6 a7 a8 a9 a10 a11 a12 a13 a14 a15 a16 a17 a18 a19 a20 a21 fu x0 1 :=
  pk_loop (σ := Int32) (fun k i x => wX_init_198 post mc ms J (nI n) kc ks fm fh fk fl ff fc ft a1 a2 a3 a4 a5 a6 a7 a8 a9 a10 a11 a12 a13 a14 a15 a16 a17 a18 a19 a20 a21 k x (nI i)) (fun i x => x = nI (tl_ps n i)) (n - 1) 1 x0 (by omega) (by rw [hx0, tl_ps1])
    (fun k x hx => pk_le (n - 1) (n - 1) (fun _ => ⟨pk_in n 13 (by omega), nm_r (e' := upd a15 n (nI (tl_tt n))) (by rw [nI_clamp (by omega), hx, tl_psE n (by omega) hn]) (nm_r (nI_1 n) H)⟩) (fun z => absurd z (by omega)) (tl_sub1 (by omega)))
    (fun k i x hi hx hw => pk_le (n - 1) i (fun z => absurd z (by omega)) (fun _ => ⟨pk_in i 13 (by omega), pk_in (n - 1 - i) 13 (by omega) (tl_sub2 (by omega)),
      nm_r (e' := nI (tl_ps n (i + 1))) (by rw [nI_clamp (by omega), pk_cl (n - 1 - i) (tl_sub2 (by omega)) (by omega), h i (by omega), h (n - 1 - i) (by omega), hx, pk_mul, nI_add]; rfl) (nm_r (nI_1 i) (hw _ rfl))⟩) (tl_sub1 (by omega)))
theorem tl_init181 {post : St2 → Prop} {mc ms kc ks : Nat} {fm fh fk fl ff fc ft : Int32} {a1 a2 a3 a4 a5 a6 a7 a8 a9 a10 a11 a12 a13 a14 a15 a16 a17 a18 a19 a20 a21 : Nat → Int32} (h : ∀ j, j < 2 → a15 j = nI (tl_tt j))
    (H : ∀ s, (∀ j, j < 13 → s j = nI (tl_tt j)) → post (fm, fh, fk, fl, ff, fc, ft, a1, a2, a3, a4, a5, a6, a7, a8, a9, a10, a11, a12, a13, a14, s, a16, a17, a18, a19, a20, a21)) : ∃ fu, wX_init_181 post mc ms kc ks fm fh fk fl ff fc ft fu 2 a1 a2 a3 a4 a5 a6 a7 a8 a9 a10 a11 a12 a13 a14 a15 a16 a17 a18 a19 a20 a21 :=
  pk_loop (σ := Nat → Int32) (fun k n s => wX_init_181 post mc ms kc ks fm fh fk fl ff fc ft k (nI n) a1 a2 a3 a4 a5 a6 a7 a8 a9 a10 a11 a12 a13 a14 s a16 a17 a18 a19 a20 a21) (fun n s => 2 ≤ n ∧ ∀ j, j < n → s j = nI (tl_tt j)) 13 2 a15 (by omega) ⟨by omega, h⟩
    (fun k s hs => pk_lt 12 13 (fun _ => H s hs.2) (fun z => absurd z (by omega)))
    (fun k n s hn hs hw => pk_lt 12 n (fun z => absurd z (by omega)) (fun _ => ⟨pk_in (n - 1) 13 (by omega) (tl_sub1 (by omega)), nm_e (tl_init198 hs.1 (by omega) hs.2 (by rw [pk_cl (n - 1) (tl_sub1 (by omega)) (by omega)]; exact hs.2 (n - 1) (by omega)) (hw _ ⟨by omega, fun j hj => by
      by_cases e : j = n
      · rw [e, pk_us]
      · rw [pk_un e]; exact hs.2 j (by omega)⟩))⟩))
theorem tl_init {post : St2 → Prop} {mc ms : Nat} (hmc : 21 ≤ mc) (hms : 4347 ≤ ms)
    (H : ∀ s, (∀ j, j < 13 → s j = nI (tl_tt j)) → post (0, 0, 0, 0, 0, 0, 0, fun _ => 0, fun _ => 0, fun _ => 0, fun _ => 0, fun _ => 0, fun _ => 0, fun _ => 0, fun _ => 0, fun _ => 0, fun _ => 0, fun _ => 0, fun _ => 0, fun _ => 0, fun _ => 0, s, fun _ => 0, fun _ => 0, fun _ => 0, fun _ => 0, fun _ => 0, fun _ => 0)) :
    wpX_init post mc ms (0, 0, 0, 0, 0, 0, 0) := by
  refine ⟨by omega, by omega, by omega, by omega, by omega, by omega, by omega, by omega, by omega, by omega, by omega, by omega, by omega, by omega, by omega, by omega, by omega, by omega, by omega, by omega, by omega, by omega, by omega, by omega, by omega, by omega, by omega, by omega, by omega, by omega, by omega, by omega, by omega, by omega, by omega, by omega, by omega, by omega, by omega, by omega, by omega, by omega, nm_e (tl_init181 ?_ H)⟩
  intro j hj
  have hj : j = 0 ∨ j = 1 := by omega
  rcases hj with rfl | rfl
  · rfl
  · rfl
end
section
/-! ===== automata: what a node may have ===== -/
def tl_o1 (o : Nat → Nat) (m s : Nat) : Nat → Nat
  | 0 => 0
  | p + 1 => if s / 2 ^ p % 2 = 1 then tl_o1 o m s p ||| o (4 * m + p) else tl_o1 o m s p
def tl_o2 (t : Nat → Nat) (m a b : Nat) : Nat → Nat
  | 0 => 0
  | k + 1 => if a / 2 ^ (k % 4) % 2 = 1 ∧ b / 2 ^ (k / 4) % 2 = 1 then tl_o2 t m a b k ||| t (16 * m + k) else tl_o2 t m a b k
def tl_LP (l : Nat → Nat) (x : Nat) : Nat := l x + 16 * l (2 + x)
def tl_OP (o : Nat → Nat) (x : Nat) : Nat := tl_o1 o 0 (x % 16) 4 + 16 * tl_o1 o 1 (x / 16) 4
def tl_TP (t : Nat → Nat) (x y : Nat) : Nat := tl_o2 t 0 (x % 16) (y % 16) 16 + 16 * tl_o2 t 1 (x / 16) (y / 16) 16
def tl_ok (a : Nat → Int32) (f : Nat → Nat) (n : Nat) : Prop := ∀ j, j < n → a j = nI (f j) ∧ f j < 16
theorem tl_o1_lt {o : Nat → Nat} {m s : Nat} (h : ∀ j, j < 8 → o j < 16) (hm : m < 2) : ∀ p, p ≤ 4 → tl_o1 o m s p < 16
  | 0, _ => by show 0 < 16; decide
  | p + 1, hp => by
    show (if s / 2 ^ p % 2 = 1 then tl_o1 o m s p ||| o (4 * m + p) else tl_o1 o m s p) < 16
    split
    · exact (tl_or16 _ (tl_o1_lt h hm p (by omega)) _ (h _ (by omega))).2
    · exact tl_o1_lt h hm p (by omega)
theorem tl_o2_lt {t : Nat → Nat} {m a b : Nat} (h : ∀ j, j < 32 → t j < 16) (hm : m < 2) : ∀ k, k ≤ 16 → tl_o2 t m a b k < 16
  | 0, _ => by show 0 < 16; decide
  | k + 1, hk => by
    show (if a / 2 ^ (k % 4) % 2 = 1 ∧ b / 2 ^ (k / 4) % 2 = 1 then tl_o2 t m a b k ||| t (16 * m + k) else tl_o2 t m a b k) < 16
    split
    · exact (tl_or16 _ (tl_o2_lt h hm k (by omega)) _ (h _ (by omega))).2
    · exact tl_o2_lt h hm k (by omega)
theorem tl_LP_lt {l : Nat → Nat} (h : ∀ j, j < 4 → l j < 16) {x : Nat} (hx : x < 2) : tl_LP l x < 256 := by
  have h1 := h x (by omega)
  have h2 := h (2 + x) (by omega)
  show l x + 16 * l (2 + x) < 256
  omega
theorem tl_OP_lt {o : Nat → Nat} (h : ∀ j, j < 8 → o j < 16) (x : Nat) : tl_OP o x < 256 := by
  have h1 := tl_o1_lt (s := x % 16) h (m := 0) (by omega) 4 (by omega)
  have h2 := tl_o1_lt (s := x / 16) h (m := 1) (by omega) 4 (by omega)
  show tl_o1 o 0 (x % 16) 4 + 16 * tl_o1 o 1 (x / 16) 4 < 256
  omega
theorem tl_TP_lt {t : Nat → Nat} (h : ∀ j, j < 32 → t j < 16) (x y : Nat) : tl_TP t x y < 256 := by
  have h1 := tl_o2_lt (a := x % 16) (b := y % 16) h (m := 0) (by omega) 16 (by omega)
  have h2 := tl_o2_lt (a := x / 16) (b := y / 16) h (m := 1) (by omega) 16 (by omega)
  show tl_o2 t 0 (x % 16) (y % 16) 16 + 16 * tl_o2 t 1 (x / 16) (y / 16) 16 < 256
  omega
/-! the walks -/
theorem tl_overOne {post : Int32 → Prop} {o : Nat → Nat} {m s : Nat} {fm fh fk fl ff fc ft : Int32} {a1 a2 a3 a4 a5 a6 a7 a8 a9 a10 a11 a12 a13 a14 a15 a16 a17 a18 a19 a20 a21 : Nat → Int32} (ho : tl_ok a2 o 8) (hm : m < 2) (hs : s < 2 ^ 31) (hp : post (nI (tl_o1 o m s 4))) : wpX_overOne post (fm, fh, fk, fl, ff, fc, ft, a1, a2, a3, a4, a5, a6, a7, a8, a9, a10, a11, a12, a13, a14, a15, a16, a17, a18, a19, a20, a21) (nI m) (nI s) :=
  pk_loop (σ := Int32) (fun n i x => wX_overOne_5 post (nI m) (nI s) fm fh fk fl ff fc ft a1 a2 a3 a4 a5 a6 a7 a8 a9 a10 a11 a12 a13 a14 a15 a16 a17 a18 a19 a20 a21 n x (nI i)) (fun i x => x = nI (tl_o1 o m s i)) 4 0 0 (by omega) rfl
    (fun n x h => pk_le 4 4 (fun _ => by rw [h]; exact hp) (fun z => absurd z (by omega)))
    (fun n i x hi h hw => pk_le 4 i (fun z => absurd z (by omega)) (fun _ => pk_eq (s / 2 ^ i % 2) 1
      (fun z => ⟨pk_in (4 * m + i) 8 (by omega) (tl_lin 4 m i), nm_r (e' := nI (tl_o1 o m s (i + 1))) (by
        rw [pk_cl (4 * m + i) (tl_lin 4 m i) (by omega), h, (ho _ (by omega)).1, (tl_or16 _ (tl_o1_lt (fun j hj => (ho j hj).2) hm i (by omega)) _ (ho _ (by omega)).2).1]
        exact congrArg nI (if_pos z).symm) (nm_r (nI_1 i) (hw _ rfl))⟩)
      (fun z => nm_r (nI_1 i) (hw _ (by rw [h]; exact congrArg nI (if_neg z).symm)))
      (tl_bit hs (by omega)) rfl (tl_lt2 _) (by omega)))
theorem tl_bitA {a k : Nat} (ha : a < 2 ^ 31) (hk : k < 16) : ((nI a >>> ((nI k &&& 3) &&& 31)) &&& 1) = nI (a / 2 ^ (k % 4) % 2) := by
  rw [tl_and3 (by omega)]
  exact tl_bit ha (by omega)
theorem tl_bitB {b k : Nat} (hb : b < 2 ^ 31) (hk : k < 16) : ((nI b >>> ((nI k >>> ((2 : Int32) &&& 31)) &&& 31)) &&& 1) = nI (b / 2 ^ (k / 4) % 2) := by
  rw [tl_shr2 (by omega)]
  exact tl_bit hb (by omega)
theorem tl_overTwo {post : Int32 → Prop} {t : Nat → Nat} {m a b : Nat} {fm fh fk fl ff fc ft : Int32} {a1 a2 a3 a4 a5 a6 a7 a8 a9 a10 a11 a12 a13 a14 a15 a16 a17 a18 a19 a20 a21 : Nat → Int32} (ht : tl_ok a3 t 32) (hm : m < 2) (ha : a < 2 ^ 31) (hb : b < 2 ^ 31) (hp : post (nI (tl_o2 t m a b 16))) : wpX_overTwo post (fm, fh, fk, fl, ff, fc, ft, a1, a2, a3, a4, a5, a6, a7, a8, a9, a10, a11, a12, a13, a14, a15, a16, a17, a18, a19, a20, a21) (nI m) (nI a) (nI b) :=
  pk_loop (σ := Int32) (fun n i x => wX_overTwo_6 post (nI m) (nI a) (nI b) fm fh fk fl ff fc ft a1 a2 a3 a4 a5 a6 a7 a8 a9 a10 a11 a12 a13 a14 a15 a16 a17 a18 a19 a20 a21 n x (nI i)) (fun i x => x = nI (tl_o2 t m a b i)) 16 0 0 (by omega) rfl
    (fun n x h => pk_le 16 16 (fun _ => by rw [h]; exact hp) (fun z => absurd z (by omega)))
    (fun n i x hi h hw => pk_le 16 i (fun z => absurd z (by omega)) (fun _ => pk_eq (a / 2 ^ (i % 4) % 2) 1
      (fun z1 => pk_eq (b / 2 ^ (i / 4) % 2) 1
        (fun z2 => br_f tl_one_ne ⟨pk_in (16 * m + i) 32 (by omega) (tl_lin 16 m i), nm_r (e' := nI (tl_o2 t m a b (i + 1))) (by
          rw [pk_cl (16 * m + i) (tl_lin 16 m i) (by omega), h, (ht _ (by omega)).1, (tl_or16 _ (tl_o2_lt (fun j hj => (ht j hj).2) hm i (by omega)) _ (ht _ (by omega)).2).1]
          exact congrArg nI (if_pos ⟨z1, z2⟩).symm) (nm_r (nI_1 i) (hw _ rfl))⟩)
        (fun z2 => br_t rfl (nm_r (nI_1 i) (hw _ (by rw [h]; exact congrArg nI (if_neg (fun z => z2 z.2)).symm))))
        (tl_bitB hb hi) rfl (tl_lt2 _) (by omega))
      (fun z1 => br_t rfl (nm_r (nI_1 i) (hw _ (by rw [h]; exact congrArg nI (if_neg (fun z => z1 z.1)).symm))))
      (tl_bitA ha hi) rfl (tl_lt2 _) (by omega)))
theorem tl_onePair {post : Int32 → Prop} {o : Nat → Nat} {x : Nat} {fm fh fk fl ff fc ft : Int32} {a1 a2 a3 a4 a5 a6 a7 a8 a9 a10 a11 a12 a13 a14 a15 a16 a17 a18 a19 a20 a21 : Nat → Int32} (ho : tl_ok a2 o 8) (hx : x < 2 ^ 31) (hp : post (nI (tl_OP o x))) : wpX_onePair post (fm, fh, fk, fl, ff, fc, ft, a1, a2, a3, a4, a5, a6, a7, a8, a9, a10, a11, a12, a13, a14, a15, a16, a17, a18, a19, a20, a21) (nI x) := by
  unfold wpX_onePair
  dsimp only
  rw [tl_lo hx, tl_hi hx]
  refine tl_overOne (m := 0) ho (by omega) (by omega) ?_
  refine tl_overOne (m := 1) ho (by omega) (by omega) ?_
  rw [tl_pr16 _ (tl_o1_lt (fun j hj => (ho j hj).2) (by omega) 4 (by omega)) _ (tl_o1_lt (fun j hj => (ho j hj).2) (by omega) 4 (by omega))]
  exact hp
theorem tl_twoPair {post : Int32 → Prop} {t : Nat → Nat} {x y : Nat} {fm fh fk fl ff fc ft : Int32} {a1 a2 a3 a4 a5 a6 a7 a8 a9 a10 a11 a12 a13 a14 a15 a16 a17 a18 a19 a20 a21 : Nat → Int32} (ht : tl_ok a3 t 32) (hx : x < 2 ^ 31) (hy : y < 2 ^ 31) (hp : post (nI (tl_TP t x y))) : wpX_twoPair post (fm, fh, fk, fl, ff, fc, ft, a1, a2, a3, a4, a5, a6, a7, a8, a9, a10, a11, a12, a13, a14, a15, a16, a17, a18, a19, a20, a21) (nI x) (nI y) := by
  unfold wpX_twoPair
  dsimp only
  rw [tl_lo hx, tl_hi hx, tl_lo hy, tl_hi hy]
  refine tl_overTwo (m := 0) ht (by omega) (by omega) (by omega) ?_
  refine tl_overTwo (m := 1) ht (by omega) (by omega) (by omega) ?_
  rw [tl_pr16 _ (tl_o2_lt (fun j hj => (ht j hj).2) (by omega) 16 (by omega)) _ (tl_o2_lt (fun j hj => (ht j hj).2) (by omega) 16 (by omega))]
  exact hp
theorem tl_leafPair {post : Int32 → Prop} {l : Nat → Nat} {x : Nat} {fm fh fk fl ff fc ft : Int32} {a1 a2 a3 a4 a5 a6 a7 a8 a9 a10 a11 a12 a13 a14 a15 a16 a17 a18 a19 a20 a21 : Nat → Int32} (hl : tl_ok a1 l 4) (hx : x < 2) (hp : post (nI (tl_LP l x))) : wpX_leafPair post (fm, fh, fk, fl, ff, fc, ft, a1, a2, a3, a4, a5, a6, a7, a8, a9, a10, a11, a12, a13, a14, a15, a16, a17, a18, a19, a20, a21) (nI x) := by
  refine ⟨pk_in x 4 (by omega), pk_in (2 + x) 4 (by omega) (tl_addc 2 x), ?_⟩
  rw [nI_clamp (by omega), pk_cl (2 + x) (tl_addc 2 x) (by omega), (hl x (by omega)).1, (hl (2 + x) (by omega)).1, tl_pr16 _ (hl x (by omega)).2 _ (hl (2 + x) (by omega)).2]
  exact hp
/-! automata without rules, any arguments -/
theorem tl_overOne0 {post : Int32 → Prop} {m : Nat} {s : Int32} {fm fh fk fl ff fc ft : Int32} {a1 a2 a3 a4 a5 a6 a7 a8 a9 a10 a11 a12 a13 a14 a15 a16 a17 a18 a19 a20 a21 : Nat → Int32} (ho : ∀ j, j < 8 → a2 j = 0) (hm : m < 2) (hp : post 0) : wpX_overOne post (fm, fh, fk, fl, ff, fc, ft, a1, a2, a3, a4, a5, a6, a7, a8, a9, a10, a11, a12, a13, a14, a15, a16, a17, a18, a19, a20, a21) (nI m) s :=
  pk_loop (σ := Int32) (fun n i x => wX_overOne_5 post (nI m) s fm fh fk fl ff fc ft a1 a2 a3 a4 a5 a6 a7 a8 a9 a10 a11 a12 a13 a14 a15 a16 a17 a18 a19 a20 a21 n x (nI i)) (fun _ x => x = 0) 4 0 0 (by omega) rfl
    (fun n x h => pk_le 4 4 (fun _ => by rw [h]; exact hp) (fun z => absurd z (by omega)))
    (fun n i x hi h hw => pk_le 4 i (fun z => absurd z (by omega)) (fun _ => br_c
      (fun _ => ⟨pk_in (4 * m + i) 8 (by omega) (tl_lin 4 m i), nm_r (e' := 0) (by
        rw [pk_cl (4 * m + i) (tl_lin 4 m i) (by omega), h, ho _ (by omega)]; decide) (nm_r (nI_1 i) (hw _ rfl))⟩)
      (fun _ => nm_r (nI_1 i) (hw _ h))))
theorem tl_overTwo0 {post : Int32 → Prop} {m : Nat} {a b : Int32} {fm fh fk fl ff fc ft : Int32} {a1 a2 a3 a4 a5 a6 a7 a8 a9 a10 a11 a12 a13 a14 a15 a16 a17 a18 a19 a20 a21 : Nat → Int32} (ht : ∀ j, j < 32 → a3 j = 0) (hm : m < 2) (hp : post 0) : wpX_overTwo post (fm, fh, fk, fl, ff, fc, ft, a1, a2, a3, a4, a5, a6, a7, a8, a9, a10, a11, a12, a13, a14, a15, a16, a17, a18, a19, a20, a21) (nI m) a b :=
  pk_loop (σ := Int32) (fun n i x => wX_overTwo_6 post (nI m) a b fm fh fk fl ff fc ft a1 a2 a3 a4 a5 a6 a7 a8 a9 a10 a11 a12 a13 a14 a15 a16 a17 a18 a19 a20 a21 n x (nI i)) (fun _ x => x = 0) 16 0 0 (by omega) rfl
    (fun n x h => pk_le 16 16 (fun _ => by rw [h]; exact hp) (fun z => absurd z (by omega)))
    (fun n i x hi h hw => pk_le 16 i (fun z => absurd z (by omega)) (fun _ => br_c
      (fun _ => br_c
        (fun _ => br_f tl_one_ne ⟨pk_in (16 * m + i) 32 (by omega) (tl_lin 16 m i), nm_r (e' := 0) (by
          rw [pk_cl (16 * m + i) (tl_lin 16 m i) (by omega), h, ht _ (by omega)]; decide) (nm_r (nI_1 i) (hw _ rfl))⟩)
        (fun _ => br_t rfl (nm_r (nI_1 i) (hw _ h))))
      (fun _ => br_t rfl (nm_r (nI_1 i) (hw _ h)))))
theorem tl_onePair0 {post : Int32 → Prop} {x : Int32} {fm fh fk fl ff fc ft : Int32} {a1 a2 a3 a4 a5 a6 a7 a8 a9 a10 a11 a12 a13 a14 a15 a16 a17 a18 a19 a20 a21 : Nat → Int32} (ho : ∀ j, j < 8 → a2 j = 0) (hp : post 0) : wpX_onePair post (fm, fh, fk, fl, ff, fc, ft, a1, a2, a3, a4, a5, a6, a7, a8, a9, a10, a11, a12, a13, a14, a15, a16, a17, a18, a19, a20, a21) x := by
  unfold wpX_onePair
  dsimp only
  refine tl_overOne0 (m := 0) ho (by omega) ?_
  refine tl_overOne0 (m := 1) ho (by omega) ?_
  exact hp
theorem tl_twoPair0 {post : Int32 → Prop} {x y : Int32} {fm fh fk fl ff fc ft : Int32} {a1 a2 a3 a4 a5 a6 a7 a8 a9 a10 a11 a12 a13 a14 a15 a16 a17 a18 a19 a20 a21 : Nat → Int32} (ht : ∀ j, j < 32 → a3 j = 0) (hp : post 0) : wpX_twoPair post (fm, fh, fk, fl, ff, fc, ft, a1, a2, a3, a4, a5, a6, a7, a8, a9, a10, a11, a12, a13, a14, a15, a16, a17, a18, a19, a20, a21) x y := by
  unfold wpX_twoPair
  dsimp only
  refine tl_overTwo0 (m := 0) ht (by omega) ?_
  refine tl_overTwo0 (m := 1) ht (by omega) ?_
  exact hp
theorem tl_leafPair0 {post : Int32 → Prop} {x : Nat} {fm fh fk fl ff fc ft : Int32} {a1 a2 a3 a4 a5 a6 a7 a8 a9 a10 a11 a12 a13 a14 a15 a16 a17 a18 a19 a20 a21 : Nat → Int32} (hl : ∀ j, j < 4 → a1 j = 0) (hx : x < 2) (hp : post 0) : wpX_leafPair post (fm, fh, fk, fl, ff, fc, ft, a1, a2, a3, a4, a5, a6, a7, a8, a9, a10, a11, a12, a13, a14, a15, a16, a17, a18, a19, a20, a21) (nI x) := by
  refine ⟨pk_in x 4 (by omega), pk_in (2 + x) 4 (by omega) (tl_addc 2 x), ?_⟩
  rw [nI_clamp (by omega), pk_cl (2 + x) (tl_addc 2 x) (by omega), hl x (by omega), hl (2 + x) (by omega)]
  exact hp
/-! ===== which pairs count ===== -/
def tl_bI (b : Bool) : Int32 := if b then 1 else 0
def tl_io (κ : Nat) (a b : Bool) : Bool :=
  if κ = 0 then a else if κ = 1 then b else if κ = 2 then a && b else if κ = 3 then a || b else if κ = 4 then a && !b else if κ = 6 then true else !a && !b
def tl_is (f : Nat → Nat) (κ q : Nat) : Bool := tl_io κ (decide ((q % 16) &&& f 0 ≠ 0)) (decide ((q / 16) &&& f 1 ≠ 0))
theorem tl_isOf38 {post : Int32 → Prop} {κ : Nat} {a b : Bool} {fm fh fk fl ff fc ft : Int32} {a1 a2 a3 a4 a5 a6 a7 a8 a9 a10 a11 a12 a13 a14 a15 a16 a17 a18 a19 a20 a21 : Nat → Int32} (hκ : κ < 7) (hp : post (tl_bI (tl_io κ a b))) : wX_isOf_38 post (nI κ) (tl_bI a) (tl_bI b) fm fh fk fl ff fc ft a1 a2 a3 a4 a5 a6 a7 a8 a9 a10 a11 a12 a13 a14 a15 a16 a17 a18 a19 a20 a21 := by
  unfold wX_isOf_38
  have hk : κ = 0 ∨ κ = 1 ∨ κ = 2 ∨ κ = 3 ∨ κ = 4 ∨ κ = 5 ∨ κ = 6 := by omega
  rcases hk with rfl | rfl | rfl | rfl | rfl | rfl | rfl <;> cases a <;> cases b <;>
    (repeat' first | exact hp | exact ⟨rfl, hp⟩ | refine br_t (by decide) ?_ | refine br_f (by decide) ?_)
theorem tl_isOf19 {post : Int32 → Prop} {κ q : Nat} {f : Nat → Nat} {a : Bool} {fm fh fk fl ff fc ft : Int32} {a1 a2 a3 a4 a5 a6 a7 a8 a9 a10 a11 a12 a13 a14 a15 a16 a17 a18 a19 a20 a21 : Nat → Int32} (hf : tl_ok a4 f 2) (hκ : κ < 7) (hq : q < 256) (hp : post (tl_bI (tl_io κ a (decide ((q / 16) &&& f 1 ≠ 0))))) : wX_isOf_19 post (nI κ) (nI q) (tl_bI a) fm fh fk fl ff fc ft a1 a2 a3 a4 a5 a6 a7 a8 a9 a10 a11 a12 a13 a14 a15 a16 a17 a18 a19 a20 a21 := by
  unfold wX_isOf_19
  have hb := tl_and16 (q / 16) (by omega) (f 1) (hf 1 (by omega)).2
  refine pk_eq ((q / 16) &&& f 1) 0 (fun z => ?_) (fun z => ?_) (by rw [tl_hi (by omega), (hf 1 (by omega)).1]; exact hb.1) rfl (by omega) (by omega)
  · rw [decide_eq_false (fun c => c z)] at hp
    exact tl_isOf38 (b := false) hκ hp
  · rw [decide_eq_true z] at hp
    exact tl_isOf38 (b := true) hκ hp
theorem tl_isOf {post : Int32 → Prop} {κ q : Nat} {f : Nat → Nat} {fm fh fk fl ff fc ft : Int32} {a1 a2 a3 a4 a5 a6 a7 a8 a9 a10 a11 a12 a13 a14 a15 a16 a17 a18 a19 a20 a21 : Nat → Int32} (hf : tl_ok a4 f 2) (hκ : κ < 7) (hq : q < 256) (hp : post (tl_bI (tl_is f κ q))) : wpX_isOf post (fm, fh, fk, fl, ff, fc, ft, a1, a2, a3, a4, a5, a6, a7, a8, a9, a10, a11, a12, a13, a14, a15, a16, a17, a18, a19, a20, a21) (nI κ) (nI q) := by
  unfold wpX_isOf
  dsimp only
  unfold tl_is at hp
  have hb := tl_and16 (q % 16) (by omega) (f 0) (hf 0 (by omega)).2
  refine pk_eq ((q % 16) &&& f 0) 0 (fun z => ?_) (fun z => ?_) (by rw [tl_lo (by omega), (hf 0 (by omega)).1]; exact hb.1) rfl (by omega) (by omega)
  · rw [decide_eq_false (fun c => c z)] at hp
    exact tl_isOf19 (a := false) hf hκ hq hp
  · rw [decide_eq_true z] at hp
    exact tl_isOf19 (a := true) hf hκ hq hp
end
section
/-! ===== counting: what the code does ===== -/
def tl_inc (a : Nat → Int32) (k : Nat) (v : Int32) : Nat → Int32 := upd a k ((a k + v.toInt16.toInt32).toInt16.toInt32)
def tl_cw (t : Nat → Nat) (n i one : Nat) (many : Int32) (a : Nat → Int32) : Nat → Nat → Int32
  | 0 => a
  | q + 1 => if many * tl_cw t n i one many a q (256 * (n - 1 - i) + q) ≤ 0 then tl_cw t n i one many a q
    else tl_inc (tl_cw t n i one many a q) (256 * n + tl_TP t one q) (many * tl_cw t n i one many a q (256 * (n - 1 - i) + q))
def tl_c1 (o : Nat → Nat) (n : Nat) (a : Nat → Int32) : Nat → Nat → Int32
  | 0 => a
  | q + 1 => if tl_c1 o n a q (256 * (n - 1) + q) ≤ 0 then tl_c1 o n a q
    else tl_inc (tl_c1 o n a q) (256 * n + tl_OP o q) (tl_c1 o n a q (256 * (n - 1) + q))
def tl_c2 (t : Nat → Nat) (n : Nat) (a : Nat → Int32) : Nat → Nat → Int32
  | 0 => a
  | c + 1 => if tl_c2 t n a c (256 + c) ≤ 0 then tl_c2 t n a c
    else tl_cw t n ((256 + c) / 256) ((256 + c) % 256) (tl_c2 t n a c (256 + c)) (tl_c2 t n a c) 256
def tl_fn (o t : Nat → Nat) (a : Nat → Int32) : Nat → Nat → Int32
  | 0 => a
  | c + 1 => tl_c2 t (c + 2) (tl_c1 o (c + 2) (tl_fn o t a c) 256) (256 * c)
def tl_lf (l : Nat → Nat) (a : Nat → Int32) : Nat → Nat → Int32
  | 0 => a
  | x + 1 => upd (tl_lf l a x) (256 + tl_LP l x) ((tl_lf l a x (256 + tl_LP l x) + 1).toInt16.toInt32)
theorem tl_ix1 {n q : Nat} (h : 1 ≤ n) : (256 : Int32) * (nI n - 1) + nI q = nI (256 * (n - 1) + q) := by
  rw [tl_sub1 h]; exact tl_lin 256 _ _
theorem tl_ix2 {n i q : Nat} (h : i + 1 ≤ n) : (256 : Int32) * (nI n - 1 - nI i) + nI q = nI (256 * (n - 1 - i) + q) := by
  rw [tl_sub2 h]; exact tl_lin 256 _ _
theorem tl_ok_lt {a : Nat → Int32} {f : Nat → Nat} {n : Nat} (h : tl_ok a f n) : ∀ j, j < n → f j < 16 := fun j hj => (h j hj).2
theorem tl_countWithTwo {post : St2 → Prop} {t : Nat → Nat} {n i one : Nat} {pi po : Int32} {fm fh fk fl ff fc ft : Int32} {a1 a2 a3 a4 a5 a6 a7 a8 a9 a10 a11 a12 a13 a14 a15 a16 a17 a18 a19 a20 a21 : Nat → Int32} (ht : tl_ok a3 t 32) (hn : n ≤ 7) (hi : i + 1 ≤ n) (ho : one < 256) (hpi : pi = nI i) (hpo : po = nI one)
    (hp : post (fm, fh, fk, fl, ff, fc, ft, a1, a2, a3, a4, a5, a6, a7, a8, a9, a10, a11, a12, a13, tl_cw t n i one (a14 (256 * i + one)) a14 256, a15, a16, a17, a18, a19, a20, a21)) : wpX_countWithTwo post (fm, fh, fk, fl, ff, fc, ft, a1, a2, a3, a4, a5, a6, a7, a8, a9, a10, a11, a12, a13, a14, a15, a16, a17, a18, a19, a20, a21) (nI n) pi po := by
  subst hpi hpo
  refine ⟨pk_in (256 * i + one) 2048 (by omega) (tl_lin 256 i one), nm_r (tl_at a14 (256 * i + one) (tl_lin 256 i one) (by omega)) ?_⟩
  refine pk_loop (σ := Nat → Int32) (fun k q s => wX_countWithTwo_17 post (nI n) (nI i) (nI one) (a14 (256 * i + one)) fm fh fk fl ff fc ft k (nI q) a1 a2 a3 a4 a5 a6 a7 a8 a9 a10 a11 a12 a13 s a15 a16 a17 a18 a19 a20 a21) (fun q s => s = tl_cw t n i one (a14 (256 * i + one)) a14 q) 256 0 a14 (by omega) rfl
    (fun k s h => pk_le 256 256 (fun _ => by rw [h]; exact hp) (fun z => absurd z (by omega)))
    (fun k q s hq h hw => pk_le 256 q (fun z => absurd z (by omega)) (fun _ => ⟨pk_in (256 * (n - 1 - i) + q) 2048 (by omega) (tl_ix2 hi), ?_⟩))
  refine nm_r (congrArg (fun y => a14 (256 * i + one) * y) (tl_at s (256 * (n - 1 - i) + q) (tl_ix2 hi) (by omega))) ?_
  have hT := tl_TP_lt (tl_ok_lt ht) one q
  refine br_c (fun z => nm_r (nI_1 q) (hw _ (by rw [h] at z; rw [h]; exact (if_pos z).symm))) (fun z => ?_)
  refine tl_twoPair ht (by omega) (by omega) ⟨pk_in (256 * n + tl_TP t one q) 2048 (by omega) (tl_lin 256 n _), pk_in (256 * n + tl_TP t one q) 2048 (by omega) (tl_lin 256 n _), ?_⟩
  refine nm_r (e' := tl_inc s (256 * n + tl_TP t one q) (a14 (256 * i + one) * s (256 * (n - 1 - i) + q))) (by rw [pk_cl (256 * n + tl_TP t one q) (tl_lin 256 n _) (by omega)]; rfl) (nm_r (nI_1 q) (hw _ ?_))
  rw [h] at z
  rw [h]
  exact (if_neg z).symm
theorem tl_countSize64 {post : St2 → Prop} {t : Nat → Nat} {n : Nat} {fm fh fk fl ff fc ft : Int32} {a1 a2 a3 a4 a5 a6 a7 a8 a9 a10 a11 a12 a13 a14 a15 a16 a17 a18 a19 a20 a21 : Nat → Int32} (ht : tl_ok a3 t 32) (hn : n ≤ 7) (hn2 : 2 ≤ n)
    (hp : post (fm, fh, fk, fl, ff, fc, ft, a1, a2, a3, a4, a5, a6, a7, a8, a9, a10, a11, a12, a13, tl_c2 t n a14 (256 * (n - 2)), a15, a16, a17, a18, a19, a20, a21)) : ∃ fu, wX_countSize_64 post (nI n) fu 256 fm fh fk fl ff fc ft a1 a2 a3 a4 a5 a6 a7 a8 a9 a10 a11 a12 a13 a14 a15 a16 a17 a18 a19 a20 a21 := by
  have hE : (256 : Int32) * (nI n - 1) = nI (256 * (n - 1)) := by rw [tl_sub1 (by omega)]; exact tl_mulc 256 _
  refine pk_loop (σ := Nat → Int32) (fun k j s => wX_countSize_64 post (nI n) k (nI j) fm fh fk fl ff fc ft a1 a2 a3 a4 a5 a6 a7 a8 a9 a10 a11 a12 a13 s a15 a16 a17 a18 a19 a20 a21) (fun j s => ∃ c, j = 256 + c ∧ s = tl_c2 t n a14 c) (256 * (n - 1)) 256 a14 (by omega) ⟨0, rfl, rfl⟩
    (fun k s h => pk_le (256 * (n - 1)) (256 * (n - 1)) (fun _ => ?_) (fun z => absurd z (by omega)) hE)
    (fun k j s hj h hw => pk_le (256 * (n - 1)) j (fun z => absurd z (by omega)) (fun _ => ⟨pk_in j 2048 (by omega), ?_⟩) hE)
  · obtain ⟨c, e, h⟩ := h
    have e2 : c = 256 * (n - 2) := by omega
    rw [h, e2]
    exact hp
  · obtain ⟨c, e, h⟩ := h
    rw [nI_clamp (show j < 2 ^ 31 by omega)]
    refine br_c (fun z => nm_r (nI_1 j) (hw _ ⟨c + 1, by omega, ?_⟩)) (fun z => ⟨by decide, by decide, ?_⟩)
    · rw [h, e] at z
      rw [h]
      exact (if_pos z).symm
    · refine tl_countWithTwo (i := j / 256) (one := j % 256) ht hn (by omega) (by omega) (pk_div (by omega) (by decide) (by decide)) (pk_rem (by omega) (by decide) (by decide)) (nm_r (nI_1 j) (hw _ ⟨c + 1, by omega, ?_⟩))
      rw [show 256 * (j / 256) + j % 256 = j by omega]
      rw [h, e] at z
      rw [h, e]
      exact (if_neg z).symm
theorem tl_countSize {post : St2 → Prop} {o t : Nat → Nat} {n : Nat} {fm fh fk fl ff fc ft : Int32} {a1 a2 a3 a4 a5 a6 a7 a8 a9 a10 a11 a12 a13 a14 a15 a16 a17 a18 a19 a20 a21 : Nat → Int32} (ho : tl_ok a2 o 8) (ht : tl_ok a3 t 32) (hn : n ≤ 7) (hn2 : 2 ≤ n)
    (hp : post (fm, fh, fk, fl, ff, fc, ft, a1, a2, a3, a4, a5, a6, a7, a8, a9, a10, a11, a12, a13, tl_c2 t n (tl_c1 o n a14 256) (256 * (n - 2)), a15, a16, a17, a18, a19, a20, a21)) : wpX_countSize post (fm, fh, fk, fl, ff, fc, ft, a1, a2, a3, a4, a5, a6, a7, a8, a9, a10, a11, a12, a13, a14, a15, a16, a17, a18, a19, a20, a21) (nI n) := by
  refine pk_loop (σ := Nat → Int32) (fun k q s => wX_countSize_2 post (nI n) fm fh fk fl ff fc ft k (nI q) a1 a2 a3 a4 a5 a6 a7 a8 a9 a10 a11 a12 a13 s a15 a16 a17 a18 a19 a20 a21) (fun q s => s = tl_c1 o n a14 q) 256 0 a14 (by omega) rfl
    (fun k s h => pk_le 256 256 (fun _ => tl_countSize64 ht hn hn2 (by rw [h]; exact hp)) (fun z => absurd z (by omega)))
    (fun k q s hq h hw => pk_le 256 q (fun z => absurd z (by omega)) (fun _ => ⟨pk_in (256 * (n - 1) + q) 2048 (by omega) (tl_ix1 (by omega)), ?_⟩))
  refine nm_r (tl_at s (256 * (n - 1) + q) (tl_ix1 (by omega)) (by omega)) ?_
  have hO := tl_OP_lt (tl_ok_lt ho) q
  refine br_c (fun z => nm_r (nI_1 q) (hw _ (by rw [h] at z; rw [h]; exact (if_pos z).symm))) (fun z => ?_)
  refine tl_onePair ho (by omega) ⟨pk_in (256 * n + tl_OP o q) 2048 (by omega) (tl_lin 256 n _), pk_in (256 * n + tl_OP o q) 2048 (by omega) (tl_lin 256 n _), ?_⟩
  refine nm_r (e' := tl_inc s (256 * n + tl_OP o q) (s (256 * (n - 1) + q))) (by rw [pk_cl (256 * n + tl_OP o q) (tl_lin 256 n _) (by omega)]; rfl) (nm_r (nI_1 q) (hw _ ?_))
  rw [h] at z
  rw [h]
  exact (if_neg z).symm
theorem tl_find71 {post : St2 → Prop} {o t : Nat → Nat} {fm fh fk fl ff fc ft : Int32} {a1 a2 a3 a4 a5 a6 a7 a8 a9 a10 a11 a12 a13 a14 a15 a16 a17 a18 a19 a20 a21 : Nat → Int32} (ho : tl_ok a2 o 8) (ht : tl_ok a3 t 32) (hp : post (fm, fh, fk, fl, ff, fc, ft, a1, a2, a3, a4, a5, a6, a7, a8, a9, a10, a11, a12, a13, tl_fn o t a14 6, a15, a16, a17, a18, a19, a20, a21)) : ∃ fu, wX_find_71 post fu 2 fm fh fk fl ff fc ft a1 a2 a3 a4 a5 a6 a7 a8 a9 a10 a11 a12 a13 a14 a15 a16 a17 a18 a19 a20 a21 := by
  refine pk_loop (σ := Nat → Int32) (fun k n s => wX_find_71 post k (nI n) fm fh fk fl ff fc ft a1 a2 a3 a4 a5 a6 a7 a8 a9 a10 a11 a12 a13 s a15 a16 a17 a18 a19 a20 a21) (fun n s => ∃ c, n = c + 2 ∧ s = tl_fn o t a14 c) 8 2 a14 (by omega) ⟨0, rfl, rfl⟩
    (fun k s h => pk_lt 7 8 (fun _ => ?_) (fun z => absurd z (by omega)))
    (fun k n s hn h hw => pk_lt 7 n (fun z => absurd z (by omega)) (fun _ => ?_))
  · obtain ⟨c, e, h⟩ := h
    have e2 : c = 6 := by omega
    rw [h, e2]
    exact hp
  · obtain ⟨c, e, h⟩ := h
    refine tl_countSize ho ht (by omega) (by omega) (nm_r (nI_1 n) (hw _ ⟨c + 1, by omega, ?_⟩))
    rw [h, e]
    rfl
theorem tl_find37 {post : St2 → Prop} {l o t : Nat → Nat} {fm fh fk fl ff fc ft : Int32} {a1 a2 a3 a4 a5 a6 a7 a8 a9 a10 a11 a12 a13 a14 a15 a16 a17 a18 a19 a20 a21 : Nat → Int32} (hl : tl_ok a1 l 4) (ho : tl_ok a2 o 8) (ht : tl_ok a3 t 32) (hp : post (fm, fh, fk, fl, ff, fc, ft, a1, a2, a3, a4, a5, a6, a7, a8, a9, a10, a11, a12, a13, tl_fn o t (tl_lf l a14 2) 6, a15, a16, a17, a18, a19, a20, a21)) : ∃ fu, wX_find_37 post fm fh fk fl ff fc ft fu 0 a1 a2 a3 a4 a5 a6 a7 a8 a9 a10 a11 a12 a13 a14 a15 a16 a17 a18 a19 a20 a21 := by
  refine pk_loop (σ := Nat → Int32) (fun k x s => wX_find_37 post fm fh fk fl ff fc ft k (nI x) a1 a2 a3 a4 a5 a6 a7 a8 a9 a10 a11 a12 a13 s a15 a16 a17 a18 a19 a20 a21) (fun x s => s = tl_lf l a14 x) 2 0 a14 (by omega) rfl
    (fun k s h => pk_le 2 2 (fun _ => tl_find71 ho ht (by rw [h]; exact hp)) (fun z => absurd z (by omega)))
    (fun k x s hx h hw => pk_le 2 x (fun z => absurd z (by omega)) (fun _ => ?_))
  have hL := tl_LP_lt (tl_ok_lt hl) hx
  refine tl_leafPair hl hx ⟨pk_in (256 + tl_LP l x) 2048 (by omega) (tl_addc 256 _), pk_in (256 + tl_LP l x) 2048 (by omega) (tl_addc 256 _), ?_⟩
  refine nm_r (e' := tl_lf l a14 (x + 1)) (by rw [pk_cl (256 + tl_LP l x) (tl_addc 256 _) (by omega), h]; rfl) (nm_r (nI_1 x) (hw _ rfl))
theorem tl_find {post : St2 → Prop} {l o t : Nat → Nat} {fm fh fk fl ff fc ft : Int32} {a1 a2 a3 a4 a5 a6 a7 a8 a9 a10 a11 a12 a13 a14 a15 a16 a17 a18 a19 a20 a21 : Nat → Int32} (hl : tl_ok a1 l 4) (ho : tl_ok a2 o 8) (ht : tl_ok a3 t 32) (hk : ¬ fk = 0 → post (fm, fh, fk, fl, ff, fc, ft, a1, a2, a3, a4, a5, a6, a7, a8, a9, a10, a11, a12, a13, a14, a15, a16, a17, a18, a19, a20, a21))
    (hp : ∀ s : Nat → Int32, (∀ k, k < 2048 → s k = 0) → post (fm, fh, 1, fl, ff, fc, ft, a1, a2, a3, a4, a5, a6, a7, a8, a9, a10, a11, a12, a13, tl_fn o t (tl_lf l s 2) 6, a15, a16, a17, a18, a19, a20, a21)) : wpX_find post (fm, fh, fk, fl, ff, fc, ft, a1, a2, a3, a4, a5, a6, a7, a8, a9, a10, a11, a12, a13, a14, a15, a16, a17, a18, a19, a20, a21) := by
  refine br_c (fun _ => ?_) hk
  refine pk_loop (σ := Nat → Int32) (fun k x s => wX_find_15 post fm fh 1 fl ff fc ft k (nI x) a1 a2 a3 a4 a5 a6 a7 a8 a9 a10 a11 a12 a13 s a15 a16 a17 a18 a19 a20 a21) (fun x s => ∀ j, j < x → s j = 0) 2048 0 a14 (by omega) (fun j hj => absurd hj (by omega))
    (fun k s h => pk_le 2048 2048 (fun _ => tl_find37 hl ho ht (hp s h)) (fun z => absurd z (by omega)))
    (fun k x s hx h hw => pk_le 2048 x (fun z => absurd z (by omega)) (fun _ => ⟨pk_in x 2048 hx, nm_r (e' := upd s x 0) (by rw [nI_clamp (by omega)]) (nm_r (nI_1 x) (hw _ (fun j hj => ?_)))⟩))
  by_cases e : j = x
  · rw [e, pk_us]
  · rw [pk_un e]
    exact h j (by omega)
/-- finding the counts, with a property that they have when they are known -/
theorem tl_findC {post : St2 → Prop} {l o t : Nat → Nat} {C : (Nat → Int32) → Prop} {fm fh fk fl ff fc ft : Int32} {a1 a2 a3 a4 a5 a6 a7 a8 a9 a10 a11 a12 a13 a14 a15 a16 a17 a18 a19 a20 a21 : Nat → Int32} (hl : tl_ok a1 l 4) (ho : tl_ok a2 o 8) (ht : tl_ok a3 t 32) (hk : ¬ fk = 0 → C a14)
    (hC : ∀ s : Nat → Int32, (∀ k, k < 2048 → s k = 0) → C (tl_fn o t (tl_lf l s 2) 6)) (hp : ∀ (fk : Int32) (a14 : Nat → Int32), C a14 → post (fm, fh, fk, fl, ff, fc, ft, a1, a2, a3, a4, a5, a6, a7, a8, a9, a10, a11, a12, a13, a14, a15, a16, a17, a18, a19, a20, a21)) : wpX_find post (fm, fh, fk, fl, ff, fc, ft, a1, a2, a3, a4, a5, a6, a7, a8, a9, a10, a11, a12, a13, a14, a15, a16, a17, a18, a19, a20, a21) :=
  tl_find hl ho ht (fun z => hp fk a14 (hk z)) (fun s hs => hp 1 _ (hC s hs))
end
section
/-! ===== counting: rows below the one at work don't change ===== -/
theorem tl_inc_ne {a : Nat → Int32} {k j : Nat} {v : Int32} (h : j ≠ k) : tl_inc a k v j = a j := pk_un h
theorem tl_cw_lo {t : Nat → Nat} {n i one : Nat} {many : Int32} {a : Nat → Int32} {k : Nat} (hk : k < 256 * n) : ∀ q, tl_cw t n i one many a q k = a k
  | 0 => rfl
  | q + 1 => by
    show (if many * tl_cw t n i one many a q (256 * (n - 1 - i) + q) ≤ 0 then tl_cw t n i one many a q else tl_inc (tl_cw t n i one many a q) (256 * n + tl_TP t one q) (many * tl_cw t n i one many a q (256 * (n - 1 - i) + q))) k = a k
    split
    · exact tl_cw_lo hk q
    · rw [tl_inc_ne (by omega)]
      exact tl_cw_lo hk q
theorem tl_c1_lo {o : Nat → Nat} {n : Nat} {a : Nat → Int32} {k : Nat} (hk : k < 256 * n) : ∀ q, tl_c1 o n a q k = a k
  | 0 => rfl
  | q + 1 => by
    show (if tl_c1 o n a q (256 * (n - 1) + q) ≤ 0 then tl_c1 o n a q else tl_inc (tl_c1 o n a q) (256 * n + tl_OP o q) (tl_c1 o n a q (256 * (n - 1) + q))) k = a k
    split
    · exact tl_c1_lo hk q
    · rw [tl_inc_ne (by omega)]
      exact tl_c1_lo hk q
theorem tl_c2_lo {t : Nat → Nat} {n : Nat} {a : Nat → Int32} {k : Nat} (hk : k < 256 * n) : ∀ c, tl_c2 t n a c k = a k
  | 0 => rfl
  | c + 1 => by
    show (if tl_c2 t n a c (256 + c) ≤ 0 then tl_c2 t n a c else tl_cw t n ((256 + c) / 256) ((256 + c) % 256) (tl_c2 t n a c (256 + c)) (tl_c2 t n a c) 256) k = a k
    split
    · exact tl_c2_lo hk c
    · rw [tl_cw_lo hk]
      exact tl_c2_lo hk c
theorem tl_fn_lo {o t : Nat → Nat} {a : Nat → Int32} {k : Nat} (hk : k < 512) : ∀ c, tl_fn o t a c k = a k
  | 0 => rfl
  | c + 1 => by
    show tl_c2 t (c + 2) (tl_c1 o (c + 2) (tl_fn o t a c) 256) (256 * c) k = a k
    rw [tl_c2_lo (by omega), tl_c1_lo (by omega)]
    exact tl_fn_lo hk c
/-- trees of one letter, by pair -/
def tl_r1 (l : Nat → Nat) (q : Nat) : Nat := (if q = tl_LP l 0 then 1 else 0) + (if q = tl_LP l 1 then 1 else 0)
def tl_C1 (l : Nat → Nat) (a : Nat → Int32) : Prop := ∀ q, q < 256 → a (256 + q) = nI (tl_r1 l q)
theorem tl_C1_find {l o t : Nat → Nat} (hl : ∀ j, j < 4 → l j < 16) {s : Nat → Int32} (hs : ∀ k, k < 2048 → s k = 0) : tl_C1 l (tl_fn o t (tl_lf l s 2) 6) := by
  intro q hq
  rw [tl_fn_lo (by omega)]
  have h0 := tl_LP_lt hl (x := 0) (by omega)
  have h1 := tl_LP_lt hl (x := 1) (by omega)
  have z : ∀ x, x < 256 → s (256 + x) = nI 0 := fun x hx => hs _ (by omega)
  have e1 : ∀ x, x < 256 → tl_lf l s 1 (256 + x) = nI (if x = tl_LP l 0 then 1 else 0) := by
    intro x hx
    show upd s (256 + tl_LP l 0) ((s (256 + tl_LP l 0) + 1).toInt16.toInt32) (256 + x) = _
    by_cases e : x = tl_LP l 0
    · rw [if_pos e, e, pk_us, z _ h0]
      decide
    · rw [if_neg e, pk_un (by omega), z _ hx]
  show upd (tl_lf l s 1) (256 + tl_LP l 1) ((tl_lf l s 1 (256 + tl_LP l 1) + 1).toInt16.toInt32) (256 + q) = _
  unfold tl_r1
  by_cases e : q = tl_LP l 1
  · rw [e, pk_us, e1 _ h1, if_pos rfl, nI_1]
    exact tl_s16 _ (by split <;> omega)
  · rw [pk_un (by omega), e1 _ hq, if_neg e, Nat.add_zero]
/-! ===== counting without rules ===== -/
def tl_z (_ : Nat) : Nat := 0
def tl_CE (a : Nat → Int32) : Prop := ∀ n, n ≤ 7 → ∀ q, q < 256 → a (256 * n + q) = nI (if q = 0 then tl_tt n else 0)
theorem tl_o1z {m s : Nat} : ∀ p, tl_o1 tl_z m s p = 0
  | 0 => rfl
  | p + 1 => by
    show (if s / 2 ^ p % 2 = 1 then tl_o1 tl_z m s p ||| 0 else tl_o1 tl_z m s p) = 0
    rw [tl_o1z p]
    split <;> rfl
theorem tl_o2z {m a b : Nat} : ∀ k, tl_o2 tl_z m a b k = 0
  | 0 => rfl
  | k + 1 => by
    show (if a / 2 ^ (k % 4) % 2 = 1 ∧ b / 2 ^ (k / 4) % 2 = 1 then tl_o2 tl_z m a b k ||| 0 else tl_o2 tl_z m a b k) = 0
    rw [tl_o2z k]
    split <;> rfl
theorem tl_OPz (x : Nat) : tl_OP tl_z x = 0 := by
  unfold tl_OP
  rw [tl_o1z, tl_o1z]
theorem tl_TPz (x y : Nat) : tl_TP tl_z x y = 0 := by
  unfold tl_TP
  rw [tl_o2z, tl_o2z]
/-- rows below n are done, row n has v, the rest is empty -/
def tl_E (n v : Nat) (a : Nat → Int32) : Prop := ∀ m, m ≤ 7 → ∀ q, q < 256 → a (256 * m + q) = nI (if q = 0 then (if m < n then tl_tt m else if m = n then v else 0) else 0)
theorem tl_E_put {n v w : Nat} {a : Nat → Int32} (h : tl_E n v a) : tl_E n w (upd a (256 * n) (nI w)) := by
  intro m hm q hq
  by_cases e : 256 * m + q = 256 * n
  · have e1 : m = n := by omega
    have e2 : q = 0 := by omega
    rw [e, pk_us, if_pos e2, if_neg (by omega), if_pos e1]
  · rw [pk_un e, h m hm q hq]
    by_cases e2 : q = 0
    · rw [if_pos e2, if_pos e2, if_neg (show ¬ m = n by omega), if_neg (show ¬ m = n by omega)]
    · rw [if_neg e2, if_neg e2]
theorem tl_E_at {n v m : Nat} {a : Nat → Int32} (h : tl_E n v a) (hm : m < n) (hm7 : m ≤ 7) : a (256 * m + 0) = nI (tl_tt m) := by
  rw [h m hm7 0 (by omega), if_pos rfl, if_pos hm]
theorem tl_E_inc {n v w : Nat} {a : Nat → Int32} (h : tl_E n v a) (hn : n ≤ 7) (hw : v + w < 512) {x : Nat} (hx : x = 0) : tl_E n (v + w) (tl_inc a (256 * n + x) (nI w)) := by
  have e : tl_inc a (256 * n + x) (nI w) = upd a (256 * n) (nI (v + w)) := by
    unfold tl_inc
    rw [hx, h n hn 0 (by omega), if_pos rfl, if_neg (by omega), if_pos rfl, tl_s16 w (by omega), nI_add, tl_s16 _ hw, Nat.add_zero]
  rw [e]
  exact tl_E_put h
theorem tl_le0 : nI 0 ≤ (0 : Int32) := by decide
theorem tl_E_c1 {n : Nat} {a : Nat → Int32} (h : tl_E n 0 a) (hn : n ≤ 7) (hn2 : 2 ≤ n) (hp : 0 < tl_tt (n - 1)) (hp2 : tl_tt (n - 1) < 512) : ∀ q, q < 256 → tl_E n (tl_tt (n - 1)) (tl_c1 tl_z n a (q + 1))
  | 0, _ => by
    show tl_E n (tl_tt (n - 1)) (if a (256 * (n - 1) + 0) ≤ 0 then a else tl_inc a (256 * n + tl_OP tl_z 0) (a (256 * (n - 1) + 0)))
    rw [tl_E_at h (by omega) (by omega), if_neg (nI_nle hp (by omega))]
    have := tl_E_inc (w := tl_tt (n - 1)) h hn (by omega) (tl_OPz 0)
    rw [Nat.zero_add] at this
    exact this
  | q + 1, hq => by
    have ih := tl_E_c1 h hn hn2 hp hp2 q (by omega)
    show tl_E n (tl_tt (n - 1)) (if tl_c1 tl_z n a (q + 1) (256 * (n - 1) + (q + 1)) ≤ 0 then tl_c1 tl_z n a (q + 1) else tl_inc (tl_c1 tl_z n a (q + 1)) (256 * n + tl_OP tl_z (q + 1)) (tl_c1 tl_z n a (q + 1) (256 * (n - 1) + (q + 1))))
    have e : tl_c1 tl_z n a (q + 1) (256 * (n - 1) + (q + 1)) = nI 0 := by
      rw [ih (n - 1) (by omega) (q + 1) (by omega), if_neg (by omega)]
    rw [e, if_pos tl_le0]
    exact ih
theorem tl_E_cw {n v i : Nat} {a : Nat → Int32} (h : tl_E n v a) (hn : n ≤ 7) (hi : i + 1 ≤ n) (hp : 0 < tl_tt i * tl_tt (n - 1 - i)) (hp2 : v + tl_tt i * tl_tt (n - 1 - i) < 512) (h1 : 1 ≤ i) : ∀ q, q < 256 → tl_E n (v + tl_tt i * tl_tt (n - 1 - i)) (tl_cw tl_z n i 0 (nI (tl_tt i)) a (q + 1))
  | 0, _ => by
    show tl_E n _ (if nI (tl_tt i) * a (256 * (n - 1 - i) + 0) ≤ 0 then a else tl_inc a (256 * n + tl_TP tl_z 0 0) (nI (tl_tt i) * a (256 * (n - 1 - i) + 0)))
    rw [tl_E_at h (by omega) (by omega), pk_mul, if_neg (nI_nle hp (by omega))]
    exact tl_E_inc h hn hp2 (tl_TPz 0 0)
  | q + 1, hq => by
    have ih := tl_E_cw h hn hi hp hp2 h1 q (by omega)
    show tl_E n _ (if nI (tl_tt i) * tl_cw tl_z n i 0 (nI (tl_tt i)) a (q + 1) (256 * (n - 1 - i) + (q + 1)) ≤ 0 then tl_cw tl_z n i 0 (nI (tl_tt i)) a (q + 1) else tl_inc (tl_cw tl_z n i 0 (nI (tl_tt i)) a (q + 1)) (256 * n + tl_TP tl_z 0 (q + 1)) (nI (tl_tt i) * tl_cw tl_z n i 0 (nI (tl_tt i)) a (q + 1) (256 * (n - 1 - i) + (q + 1))))
    have e : tl_cw tl_z n i 0 (nI (tl_tt i)) a (q + 1) (256 * (n - 1 - i) + (q + 1)) = nI 0 := by
      rw [ih (n - 1 - i) (by omega) (q + 1) (by omega), if_neg (by omega)]
    rw [e, pk_mul, Nat.mul_zero, if_pos tl_le0]
    exact ih
theorem tl_ttpos : ∀ n, n < 8 → 1 ≤ n → 0 < tl_tt n ∧ tl_tt n < 512 := by decide +kernel
theorem tl_psb : ∀ n, n < 8 → ∀ i, i < n → tl_ps n i < 512 := by decide +kernel
theorem tl_E_c2 {n : Nat} {a : Nat → Int32} (h : tl_E n (tl_tt (n - 1)) a) (hn : n ≤ 7) (hn2 : 2 ≤ n) : ∀ c, c ≤ 256 * (n - 2) → tl_E n (tl_ps n ((c + 255) / 256 + 1)) (tl_c2 tl_z n a c)
  | 0, _ => by
    show tl_E n (tl_ps n 1) a
    rw [tl_ps1]
    exact h
  | c + 1, hc => by
    have ih := tl_E_c2 h hn hn2 c (by omega)
    show tl_E n _ (if tl_c2 tl_z n a c (256 + c) ≤ 0 then tl_c2 tl_z n a c else tl_cw tl_z n ((256 + c) / 256) ((256 + c) % 256) (tl_c2 tl_z n a c (256 + c)) (tl_c2 tl_z n a c) 256)
    have hk : 256 + c = 256 * ((256 + c) / 256) + (256 + c) % 256 := by omega
    have hv := ih ((256 + c) / 256) (by omega) ((256 + c) % 256) (by omega)
    rw [← hk, if_pos (show (256 + c) / 256 < n by omega)] at hv
    by_cases e : (256 + c) % 256 = 0
    · rw [if_pos e] at hv
      have hi : (256 + c) / 256 < n := by omega
      have t1 := tl_ttpos ((256 + c) / 256) (by omega) (by omega)
      have t2 := tl_ttpos (n - 1 - (256 + c) / 256) (by omega) (by omega)
      rw [hv, if_neg (nI_nle t1.1 (by omega)), e]
      have e3 : (c + 255) / 256 + 1 = (256 + c) / 256 := by omega
      have e4 : (c + 1 + 255) / 256 + 1 = (256 + c) / 256 + 1 := by omega
      rw [e4]
      rw [e3] at ih
      have hb := tl_psb n (by omega) ((256 + c) / 256 + 1) (by omega)
      exact tl_E_cw (i := (256 + c) / 256) ih hn (by omega) (Nat.mul_pos t1.1 t2.1) hb (by omega) 255 (by omega)
    · rw [if_neg e] at hv
      rw [hv, if_pos tl_le0]
      have e4 : (c + 1 + 255) / 256 + 1 = (c + 255) / 256 + 1 := by omega
      rw [e4]
      exact ih
theorem tl_E_next {n : Nat} {a : Nat → Int32} (h : tl_E n (tl_tt n) a) : tl_E (n + 1) 0 a := by
  intro m hm q hq
  rw [h m hm q hq]
  congr 1
  by_cases e : q = 0
  · rw [if_pos e, if_pos e]
    by_cases e1 : m < n
    · rw [if_pos e1, if_pos (by omega)]
    · rw [if_neg e1]
      by_cases e2 : m = n
      · rw [if_pos e2, if_pos (by omega), e2]
      · rw [if_neg e2, if_neg (by omega)]
        split <;> rfl
  · rw [if_neg e, if_neg e]
theorem tl_E_fn {a : Nat → Int32} (h : tl_E 2 0 a) : ∀ c, c ≤ 6 → tl_E (c + 2) 0 (tl_fn tl_z tl_z a c)
  | 0, _ => h
  | c + 1, hc => by
    have ih := tl_E_fn h c (by omega)
    have tp := tl_ttpos (c + 2 - 1) (by omega) (by omega)
    have h1 := tl_E_c1 ih (by omega) (by omega) tp.1 tp.2 255 (by omega)
    have h2 := tl_E_c2 h1 (by omega) (by omega) (256 * c) (by omega)
    have e : (256 * c + 255) / 256 + 1 = c + 2 - 1 := by omega
    rw [e, tl_psE (c + 2) (by omega) (by omega)] at h2
    exact tl_E_next h2
theorem tl_CE_find {s : Nat → Int32} (hs : ∀ k, k < 2048 → s k = 0) : tl_CE (tl_fn tl_z tl_z (tl_lf tl_z s 2) 6) := by
  have h : tl_E 2 0 (tl_lf tl_z s 2) := by
    intro m hm q hq
    show upd (upd s 256 ((s 256 + 1).toInt16.toInt32)) 256 ((upd s 256 ((s 256 + 1).toInt16.toInt32) 256 + 1).toInt16.toInt32) (256 * m + q) = _
    by_cases e : 256 * m + q = 256
    · have e1 : m = 1 := by omega
      have e2 : q = 0 := by omega
      rw [e, pk_us, pk_us, hs 256 (by omega), e1, e2]
      decide
    · rw [pk_un e, pk_un e, hs _ (by omega)]
      by_cases e2 : q = 0
      · rw [if_pos e2]
        by_cases e3 : m < 2
        · have e4 : m = 0 := by omega
          rw [e4]
          decide
        · rw [if_neg e3]
          split <;> decide
      · rw [if_neg e2]
        decide
  have h2 := tl_E_fn h 6 (by omega)
  intro n hn q hq
  rw [h2 n hn q hq, if_pos (show n < 8 by omega)]
theorem tl_CE_C1 {a : Nat → Int32} (h : tl_CE a) : tl_C1 tl_z a := by
  intro q hq
  rw [show 256 + q = 256 * 1 + q by omega, h 1 (by omega) q hq]
  unfold tl_r1
  by_cases e : q = 0
  · rw [e]; rfl
  · rw [if_neg e, if_neg (show ¬ q = tl_LP tl_z 0 from e), if_neg (show ¬ q = tl_LP tl_z 1 from e)]
end
section
/-! ===== trees on the stack ===== -/
def tl_nd (T : List (Nat × Nat × Nat × Nat)) (j : Nat) : Nat × Nat × Nat × Nat := T.getD j (0, 0, 0, 0)
/-- a list, the newest first, lies in an array -/
def tl_Sk : List Nat → (Nat → Int32) → Prop
  | [], _ => True
  | x :: r, a => a r.length = nI x ∧ tl_Sk r a
theorem tl_Sk_upd {a : Nat → Int32} {k : Nat} {v : Int32} : ∀ {r : List Nat}, r.length ≤ k → tl_Sk r a → tl_Sk r (upd a k v)
  | [], _, _ => trivial
  | x :: r, h, hs => by
    have h1 : r.length + 1 ≤ k := h
    exact ⟨by rw [pk_un (by omega)]; exact hs.1, tl_Sk_upd (by omega) hs.2⟩
theorem tl_Sk_at {a : Nat → Int32} : ∀ {w : List Nat} {j : Nat}, j < w.length → tl_Sk w a → a j = nI (w.getD (w.length - 1 - j) 0)
  | [], j, h, _ => absurd h (Nat.not_lt_zero j)
  | x :: r, j, h, hs => by
    have h1 : j < r.length + 1 := h
    have e0 : (x :: r).length - 1 - j = r.length - j := by
      show r.length + 1 - 1 - j = r.length - j
      omega
    rw [e0]
    by_cases e : j = r.length
    · rw [e, Nat.sub_self]
      exact hs.1
    · have e1 : r.length - j = (r.length - 1 - j) + 1 := by omega
      rw [e1]
      exact tl_Sk_at (by omega) hs.2
def tl_No (x : Nat × Nat × Nat × Nat) (y5 y6 y7 y8 : Int32) : Prop :=
  (y5 = nI x.1 ∧ x.1 < 4) ∧ (y6 = nI x.2.1 ∧ x.2.1 < 12) ∧ (y7 = nI x.2.2.1 ∧ x.2.2.1 < 12) ∧ (y8 = nI x.2.2.2 ∧ x.2.2.2 ≤ 12)
def tl_Ns (T : List (Nat × Nat × Nat × Nat)) (a5 a6 a7 a8 : Nat → Int32) : Prop := ∀ j, j < T.length → tl_No (tl_nd T j) (a5 j) (a6 j) (a7 j) (a8 j)
def tl_Tr (T : List (Nat × Nat × Nat × Nat)) (st : List Nat) (fm fh : Int32) (a5 a6 a7 a8 a9 : Nat → Int32) : Prop :=
  fm = nI T.length ∧ fh = nI st.length ∧ T.length ≤ 12 ∧ st.length ≤ T.length ∧ (∀ x, x ∈ st → x < T.length) ∧ tl_Sk st a9 ∧ tl_Ns T a5 a6 a7 a8
theorem tl_nd_lt {x : Nat × Nat × Nat × Nat} : ∀ {T : List (Nat × Nat × Nat × Nat)} {j : Nat}, j < T.length → tl_nd (T ++ [x]) j = tl_nd T j
  | [], j, h => absurd h (Nat.not_lt_zero j)
  | _ :: _, 0, _ => rfl
  | _ :: T, j + 1, h => tl_nd_lt (T := T) (j := j) (Nat.lt_of_succ_lt_succ h)
theorem tl_nd_eq {x : Nat × Nat × Nat × Nat} : ∀ {T : List (Nat × Nat × Nat × Nat)}, tl_nd (T ++ [x]) T.length = x
  | [] => rfl
  | _ :: T => tl_nd_eq (T := T)
theorem tl_len1 (T : List (Nat × Nat × Nat × Nat)) (x : Nat × Nat × Nat × Nat) : (T ++ [x]).length = T.length + 1 := by
  rw [List.length_append]; rfl
theorem tl_Tr_add {T : List (Nat × Nat × Nat × Nat)} {st r : List Nat} {x a b s : Nat} {fm fh : Int32} {a5 a6 a7 a8 a9 : Nat → Int32} (h : tl_Tr T st fm fh a5 a6 a7 a8 a9) (hT : T.length < 12) (hr : tl_Sk r a9) (hrl : r.length ≤ T.length) (hrm : ∀ y, y ∈ r → y < T.length)
    (hx : x < 4) (ha : a < 12) (hb : b < 12) (hs : s ≤ 12) : tl_Tr (T ++ [(x, a, b, s)]) (T.length :: r) (nI (T.length + 1)) (nI (r.length + 1)) (upd a5 T.length (nI x)) (upd a6 T.length (nI a)) (upd a7 T.length (nI b)) (upd a8 T.length (nI s)) (upd a9 r.length (nI T.length)) := by
  obtain ⟨h1, h2, h3, h4, h5, h6, h7⟩ := h
  have hl := tl_len1 T (x, a, b, s)
  refine ⟨by rw [hl], rfl, by omega, ?_, ?_, ⟨pk_us, tl_Sk_upd (Nat.le_refl _) hr⟩, ?_⟩
  · show r.length + 1 ≤ _
    omega
  · intro y hy
    rw [hl]
    rcases List.mem_cons.mp hy with e | e
    · omega
    · have := hrm y e
      omega
  · intro j hj
    rw [hl] at hj
    by_cases e : j = T.length
    · rw [e, tl_nd_eq, pk_us, pk_us, pk_us, pk_us]
      exact ⟨⟨rfl, hx⟩, ⟨rfl, ha⟩, ⟨rfl, hb⟩, ⟨rfl, hs⟩⟩
    · rw [tl_nd_lt (by omega), pk_un e, pk_un e, pk_un e, pk_un e]
      exact h7 j (by omega)
/-- one more node: the walk -/
theorem tl_make {post : Int32 → St2 → Prop} {x tk h md a b sa sb : Nat} {fm fh fk fl ff fc ft : Int32} {a1 a2 a3 a4 a5 a6 a7 a8 a9 a10 a11 a12 a13 a14 a15 a16 a17 a18 a19 a20 a21 : Nat → Int32} (hfm : fm = nI md) (hfh : fh = nI (h + tk)) (hmd : md < 12) (hh : h < 12) (hx : x < 4) (htk : tk ≤ 2) (hh2 : 1 < tk → h + 1 < 12) (ha : a < 12) (hb : b < 12) (hs : 1 + sa + sb < 128)
    (h0 : tk ≤ 0 → a = 0 ∧ sa = 0) (h1 : 0 < tk → a9 h = nI a ∧ a8 a = nI sa) (h2 : tk ≤ 1 → b = 0 ∧ sb = 0) (h3 : 1 < tk → a9 (h + 1) = nI b ∧ a8 b = nI sb)
    (H : post (nI (h + 1)) (nI (md + 1), nI (h + 1), fk, fl, ff, fc, ft, a1, a2, a3, a4, upd a5 md (nI x), upd a6 md (nI a), upd a7 md (nI b), upd a8 md (nI (1 + sa + sb)), upd a9 h (nI md), a10, a11, a12, a13, a14, a15, a16, a17, a18, a19, a20, a21)) : wpX_make post (fm, fh, fk, fl, ff, fc, ft, a1, a2, a3, a4, a5, a6, a7, a8, a9, a10, a11, a12, a13, a14, a15, a16, a17, a18, a19, a20, a21) (nI x) (nI tk) := by
  have A124 : wX_make_124 post (nI sb) (1 + nI sa) fm fm (nI h) fk fl ff fc ft a1 a2 a3 a4 (upd a5 md (nI x)) (upd a6 md (nI a)) (upd a7 md (nI b)) a8 a9 a10 a11 a12 a13 a14 a15 a16 a17 a18 a19 a20 a21 :=
    ⟨pk_in md 12 hmd hfm, nm_r (e' := upd a8 md (nI (1 + sa + sb))) (by rw [pk_cl md hfm (by omega), tl_addc 1 sa, nI_add, tl_b8 _ hs])
      ⟨pk_in h 12 hh, nm_r (e' := upd a9 h (nI md)) (by rw [nI_clamp (by omega), hfm, tl_b8 _ (by omega)]) (nm_r (nI_1 h) (nm_r (e' := nI (md + 1)) (by rw [hfm, nI_1]) H))⟩⟩
  have A107 : wX_make_107 post (nI tk) (nI b) (nI sa) 1 fm fm (nI h) fk fl ff fc ft a1 a2 a3 a4 (upd a5 md (nI x)) (upd a6 md (nI a)) (upd a7 md (nI b)) a8 a9 a10 a11 a12 a13 a14 a15 a16 a17 a18 a19 a20 a21 := by
    refine pk_le tk 1 (fun z => ?_) (fun z => ⟨pk_in b 12 hb, ?_⟩)
    · have e := A124
      rw [(h2 z).2] at e
      exact e
    · rw [nI_clamp (show b < 2 ^ 31 by omega), (h3 z).2]
      exact A124
  have A48 : wX_make_48 post (nI x) (nI tk) (nI a) (nI b) fm (nI h) fk fl ff fc ft a1 a2 a3 a4 a5 a6 a7 a8 a9 a10 a11 a12 a13 a14 a15 a16 a17 a18 a19 a20 a21 := by
    refine ⟨pk_in md 12 hmd hfm, nm_r (e' := upd a5 md (nI x)) (by rw [pk_cl md hfm (by omega), tl_b8 _ (by omega)]) ⟨pk_in md 12 hmd hfm, nm_r (e' := upd a6 md (nI a)) (by rw [pk_cl md hfm (by omega), tl_b8 _ (by omega)]) ⟨pk_in md 12 hmd hfm, nm_r (e' := upd a7 md (nI b)) (by rw [pk_cl md hfm (by omega), tl_b8 _ (by omega)]) ?_⟩⟩⟩
    refine pk_le tk 0 (fun z => ?_) (fun z => ⟨pk_in a 12 ha, ?_⟩)
    · have e := A107
      rw [(h0 z).2] at e
      exact e
    · rw [nI_clamp (show a < 2 ^ 31 by omega), (h1 z).2]
      exact A107
  have A27 : wX_make_27 post (nI x) (nI tk) (nI a) fm (nI h) fk fl ff fc ft a1 a2 a3 a4 a5 a6 a7 a8 a9 a10 a11 a12 a13 a14 a15 a16 a17 a18 a19 a20 a21 := by
    refine pk_le tk 1 (fun z => ?_) (fun z => ⟨pk_in (h + 1) 12 (hh2 z) (nI_1 h), ?_⟩)
    · have e := A48
      rw [(h2 z).1] at e
      exact e
    · rw [pk_cl (h + 1) (nI_1 h) (by omega), (h3 z).1]
      exact A48
  unfold wpX_make
  dsimp only
  refine nm_r (e' := nI h) (by rw [hfh, pk_sub (by omega), Nat.add_sub_cancel]) (pk_le tk 0 (fun z => ?_) (fun z => ⟨pk_in h 12 hh, ?_⟩))
  · have e := A27
    rw [(h0 z).1] at e
    exact e
  · rw [nI_clamp (show h < 2 ^ 31 by omega), (h1 z).1]
    exact A27
theorem tl_make0 {post : Int32 → St2 → Prop} {T : List (Nat × Nat × Nat × Nat)} {st : List Nat} {x : Nat} {fm fh fk fl ff fc ft : Int32} {a1 a2 a3 a4 a5 a6 a7 a8 a9 a10 a11 a12 a13 a14 a15 a16 a17 a18 a19 a20 a21 : Nat → Int32} (h : tl_Tr T st fm fh a5 a6 a7 a8 a9) (hT : T.length < 12) (hx : x < 4)
    (H : ∀ (fm fh : Int32) (a5 a6 a7 a8 a9 : Nat → Int32), tl_Tr (T ++ [(x, 0, 0, 1)]) (T.length :: st) fm fh a5 a6 a7 a8 a9 → post (nI (st.length + 1)) (fm, fh, fk, fl, ff, fc, ft, a1, a2, a3, a4, a5, a6, a7, a8, a9, a10, a11, a12, a13, a14, a15, a16, a17, a18, a19, a20, a21)) : wpX_make post (fm, fh, fk, fl, ff, fc, ft, a1, a2, a3, a4, a5, a6, a7, a8, a9, a10, a11, a12, a13, a14, a15, a16, a17, a18, a19, a20, a21) (nI x) 0 := by
  have hh := h
  obtain ⟨h1, h2, h3, h4, h5, h6, h7⟩ := hh
  exact tl_make (tk := 0) (h := st.length) (a := 0) (b := 0) (sa := 0) (sb := 0) h1 h2 hT (by omega) hx (by omega) (fun z => absurd z (by omega)) (by omega) (by omega) (by omega) (fun _ => ⟨rfl, rfl⟩) (fun z => absurd z (by omega)) (fun _ => ⟨rfl, rfl⟩) (fun z => absurd z (by omega))
    (H _ _ _ _ _ _ _ (tl_Tr_add (st := st) (s := 1) h hT h6 h4 h5 hx (by omega) (by omega) (by omega)))
theorem tl_make1 {post : Int32 → St2 → Prop} {T : List (Nat × Nat × Nat × Nat)} {st : List Nat} {x a : Nat} {fm fh fk fl ff fc ft : Int32} {a1 a2 a3 a4 a5 a6 a7 a8 a9 a10 a11 a12 a13 a14 a15 a16 a17 a18 a19 a20 a21 : Nat → Int32} (h : tl_Tr T (a :: st) fm fh a5 a6 a7 a8 a9) (hT : T.length < 12) (hx : x < 4) (hs : 1 + (tl_nd T a).2.2.2 ≤ 12)
    (H : ∀ (fm fh : Int32) (a5 a6 a7 a8 a9 : Nat → Int32), tl_Tr (T ++ [(x, a, 0, 1 + (tl_nd T a).2.2.2)]) (T.length :: st) fm fh a5 a6 a7 a8 a9 → post (nI (st.length + 1)) (fm, fh, fk, fl, ff, fc, ft, a1, a2, a3, a4, a5, a6, a7, a8, a9, a10, a11, a12, a13, a14, a15, a16, a17, a18, a19, a20, a21)) : wpX_make post (fm, fh, fk, fl, ff, fc, ft, a1, a2, a3, a4, a5, a6, a7, a8, a9, a10, a11, a12, a13, a14, a15, a16, a17, a18, a19, a20, a21) (nI x) 1 := by
  have hh := h
  obtain ⟨h1, h2, h3, h4, h5, h6, h7⟩ := hh
  have h4' : st.length + 1 ≤ T.length := h4
  have ha := h5 a (List.mem_cons_self ..)
  exact tl_make (tk := 1) (h := st.length) (a := a) (b := 0) (sa := (tl_nd T a).2.2.2) (sb := 0) h1 h2 hT (by omega) hx (by omega) (fun z => absurd z (by omega)) (by omega) (by omega) (by omega) (fun z => absurd z (by omega)) (fun _ => ⟨h6.1, (h7 a ha).2.2.2.1⟩) (fun _ => ⟨rfl, rfl⟩) (fun z => absurd z (by omega))
    (H _ _ _ _ _ _ _ (tl_Tr_add (st := a :: st) (s := 1 + (tl_nd T a).2.2.2) h hT h6.2 (by omega) (fun y hy => h5 y (List.mem_cons_of_mem _ hy)) hx (by omega) (by omega) hs))
theorem tl_make2 {post : Int32 → St2 → Prop} {T : List (Nat × Nat × Nat × Nat)} {st : List Nat} {x a b : Nat} {fm fh fk fl ff fc ft : Int32} {a1 a2 a3 a4 a5 a6 a7 a8 a9 a10 a11 a12 a13 a14 a15 a16 a17 a18 a19 a20 a21 : Nat → Int32} (h : tl_Tr T (b :: a :: st) fm fh a5 a6 a7 a8 a9) (hT : T.length < 12) (hx : x < 4) (hs : 1 + (tl_nd T a).2.2.2 + (tl_nd T b).2.2.2 ≤ 12)
    (H : ∀ (fm fh : Int32) (a5 a6 a7 a8 a9 : Nat → Int32), tl_Tr (T ++ [(x, a, b, 1 + (tl_nd T a).2.2.2 + (tl_nd T b).2.2.2)]) (T.length :: st) fm fh a5 a6 a7 a8 a9 → post (nI (st.length + 1)) (fm, fh, fk, fl, ff, fc, ft, a1, a2, a3, a4, a5, a6, a7, a8, a9, a10, a11, a12, a13, a14, a15, a16, a17, a18, a19, a20, a21)) : wpX_make post (fm, fh, fk, fl, ff, fc, ft, a1, a2, a3, a4, a5, a6, a7, a8, a9, a10, a11, a12, a13, a14, a15, a16, a17, a18, a19, a20, a21) (nI x) 2 := by
  have hh := h
  obtain ⟨h1, h2, h3, h4, h5, h6, h7⟩ := hh
  have h4' : st.length + 1 + 1 ≤ T.length := h4
  have hb := h5 b (List.mem_cons_self ..)
  have ha := h5 a (List.mem_cons_of_mem _ (List.mem_cons_self ..))
  exact tl_make (tk := 2) (h := st.length) (a := a) (b := b) (sa := (tl_nd T a).2.2.2) (sb := (tl_nd T b).2.2.2) h1 h2 hT (by omega) hx (by omega) (fun _ => by omega) (by omega) (by omega) (by omega) (fun z => absurd z (by omega)) (fun _ => ⟨h6.2.1, (h7 a ha).2.2.2.1⟩) (fun z => absurd z (by omega)) (fun _ => ⟨h6.1, (h7 b hb).2.2.2.1⟩)
    (H _ _ _ _ _ _ _ (tl_Tr_add (st := b :: a :: st) (s := 1 + (tl_nd T a).2.2.2 + (tl_nd T b).2.2.2) h hT h6.2.2 (by omega) (fun y hy => h5 y (List.mem_cons_of_mem _ (List.mem_cons_of_mem _ hy))) hx (by omega) (by omega) hs))
/-! ===== the state as a whole ===== -/
def tl_Au (l o t f : Nat → Nat) (a1 a2 a3 a4 : Nat → Int32) : Prop := tl_ok a1 l 4 ∧ tl_ok a2 o 8 ∧ tl_ok a3 t 32 ∧ tl_ok a4 f 2
def tl_I (l o t f : Nat → Nat) (C : (Nat → Int32) → Prop) (T : List (Nat × Nat × Nat × Nat)) (st : List Nat) (u : St2) : Prop := match u with
  | (fm, fh, fk, fl, ff, fc, ft, a1, a2, a3, a4, a5, a6, a7, a8, a9, a10, a11, a12, a13, a14, a15, a16, a17, a18, a19, a20, a21) => tl_Au l o t f a1 a2 a3 a4 ∧ (¬ fk = 0 → C a14) ∧ (∀ j, j < 13 → a15 j = nI (tl_tt j)) ∧ tl_Tr T st fm fh a5 a6 a7 a8 a9
section
variable {l o t f : Nat → Nat} {C : (Nat → Int32) → Prop} {T : List (Nat × Nat × Nat × Nat)} {st : List Nat} {post : Int32 → St2 → Prop} {pst : Int32 → Prop} {fm fh fk fl ff fc ft : Int32} {a1 a2 a3 a4 a5 a6 a7 a8 a9 a10 a11 a12 a13 a14 a15 a16 a17 a18 a19 a20 a21 : Nat → Int32}
theorem tl_topE (h : tl_I l o t f C T [] (fm, fh, fk, fl, ff, fc, ft, a1, a2, a3, a4, a5, a6, a7, a8, a9, a10, a11, a12, a13, a14, a15, a16, a17, a18, a19, a20, a21)) (H : pst (-1)) : wpX_topmost pst (fm, fh, fk, fl, ff, fc, ft, a1, a2, a3, a4, a5, a6, a7, a8, a9, a10, a11, a12, a13, a14, a15, a16, a17, a18, a19, a20, a21) := by
  obtain ⟨_, _, _, h1, h2, _⟩ := h
  exact br_t (by rw [h2]; exact tl_le0) H
theorem tl_top {x : Nat} (h : tl_I l o t f C T (x :: st) (fm, fh, fk, fl, ff, fc, ft, a1, a2, a3, a4, a5, a6, a7, a8, a9, a10, a11, a12, a13, a14, a15, a16, a17, a18, a19, a20, a21)) (H : pst (nI x)) : wpX_topmost pst (fm, fh, fk, fl, ff, fc, ft, a1, a2, a3, a4, a5, a6, a7, a8, a9, a10, a11, a12, a13, a14, a15, a16, a17, a18, a19, a20, a21) := by
  obtain ⟨_, _, _, h1, h2, h3, h4, h5, h6, h7⟩ := h
  have h4' : st.length + 1 ≤ T.length := h4
  have e : fh - 1 = nI st.length := by rw [h2]; exact nI_pred st.length
  refine br_f (by rw [h2]; exact nI_nle (Nat.succ_pos _) (show st.length + 1 < 2 ^ 31 by omega)) ⟨pk_in st.length 12 (by omega) e, ?_⟩
  rw [pk_cl st.length e (by omega), h6.1]
  exact H
theorem tl_top_lt {x : Nat} (h : tl_I l o t f C T (x :: st) (fm, fh, fk, fl, ff, fc, ft, a1, a2, a3, a4, a5, a6, a7, a8, a9, a10, a11, a12, a13, a14, a15, a16, a17, a18, a19, a20, a21)) : x < T.length ∧ T.length ≤ 12 := by
  obtain ⟨_, _, _, h1, h2, h3, h4, h5, h6, h7⟩ := h
  exact ⟨h5 x (List.mem_cons_self ..), h3⟩
theorem tl_m1n : ¬ (0 : Int32) ≤ -1 := by decide
theorem tl_sizeE (h : tl_I l o t f C T [] (fm, fh, fk, fl, ff, fc, ft, a1, a2, a3, a4, a5, a6, a7, a8, a9, a10, a11, a12, a13, a14, a15, a16, a17, a18, a19, a20, a21)) (H : pst (-4)) : wpX_size pst (fm, fh, fk, fl, ff, fc, ft, a1, a2, a3, a4, a5, a6, a7, a8, a9, a10, a11, a12, a13, a14, a15, a16, a17, a18, a19, a20, a21) := by
  unfold wpX_size
  dsimp only
  exact tl_topE h (br_f tl_m1n H)
theorem tl_size {x : Nat} (h : tl_I l o t f C T (x :: st) (fm, fh, fk, fl, ff, fc, ft, a1, a2, a3, a4, a5, a6, a7, a8, a9, a10, a11, a12, a13, a14, a15, a16, a17, a18, a19, a20, a21)) (H : pst (nI (tl_nd T x).2.2.2)) : wpX_size pst (fm, fh, fk, fl, ff, fc, ft, a1, a2, a3, a4, a5, a6, a7, a8, a9, a10, a11, a12, a13, a14, a15, a16, a17, a18, a19, a20, a21) := by
  unfold wpX_size
  dsimp only
  have hx := tl_top_lt h
  refine tl_top h (br_t (nI_pos' (by omega)) ⟨pk_in x 12 (by omega), ?_⟩)
  obtain ⟨_, _, _, h1, h2, h3, h4, h5, h6, h7⟩ := h
  rw [nI_clamp (by omega), (h7 x hx.1).2.2.2.1]
  exact H
theorem tl_discard (h : tl_I l o t f C T st (fm, fh, fk, fl, ff, fc, ft, a1, a2, a3, a4, a5, a6, a7, a8, a9, a10, a11, a12, a13, a14, a15, a16, a17, a18, a19, a20, a21)) (H : ∀ (fm fh fk fl ff fc ft : Int32) (a1 a2 a3 a4 a5 a6 a7 a8 a9 a10 a11 a12 a13 a14 a15 a16 a17 a18 a19 a20 a21 : Nat → Int32), tl_I l o t f C [] [] (fm, fh, fk, fl, ff, fc, ft, a1, a2, a3, a4, a5, a6, a7, a8, a9, a10, a11, a12, a13, a14, a15, a16, a17, a18, a19, a20, a21) → post (nI st.length) (fm, fh, fk, fl, ff, fc, ft, a1, a2, a3, a4, a5, a6, a7, a8, a9, a10, a11, a12, a13, a14, a15, a16, a17, a18, a19, a20, a21)) : wpX_discard post (fm, fh, fk, fl, ff, fc, ft, a1, a2, a3, a4, a5, a6, a7, a8, a9, a10, a11, a12, a13, a14, a15, a16, a17, a18, a19, a20, a21) := by
  obtain ⟨g1, g2, g3, h1, h2, h3, h4, h5, h6, h7⟩ := h
  unfold wpX_discard
  dsimp only
  rw [h2]
  exact H _ _ _ _ _ _ _ _ _ _ _ _ _ _ _ _ _ _ _ _ _ _ _ _ _ _ _ _ ⟨g1, g2, g3, rfl, rfl, by decide, by decide, fun _ z => (nomatch z), trivial, fun j hj => absurd hj (Nat.not_lt_zero j)⟩
theorem tl_leaf_bad {p : Int32} (hx : p < 0 ∨ ¬ p ≤ 1) (H : post (-1) (fm, fh, fk, fl, ff, fc, ft, a1, a2, a3, a4, a5, a6, a7, a8, a9, a10, a11, a12, a13, a14, a15, a16, a17, a18, a19, a20, a21)) : wpX_leaf post (fm, fh, fk, fl, ff, fc, ft, a1, a2, a3, a4, a5, a6, a7, a8, a9, a10, a11, a12, a13, a14, a15, a16, a17, a18, a19, a20, a21) p := by
  rcases hx with z | z
  · exact br_t z H
  · exact br_c (fun _ => H) (fun _ => br_f z H)
theorem tl_n12 {n : Nat} (h : n < 12) : ¬ nI n = 12 := by
  intro e
  have := (nI_eq (a := n) (b := 12) (by omega) (by omega)).mp e
  omega
theorem tl_leaf {x : Nat} (h : tl_I l o t f C T st (fm, fh, fk, fl, ff, fc, ft, a1, a2, a3, a4, a5, a6, a7, a8, a9, a10, a11, a12, a13, a14, a15, a16, a17, a18, a19, a20, a21)) (hT : T.length < 12) (hx : x < 2) (H : ∀ (fm fh fk fl ff fc ft : Int32) (a1 a2 a3 a4 a5 a6 a7 a8 a9 a10 a11 a12 a13 a14 a15 a16 a17 a18 a19 a20 a21 : Nat → Int32), tl_I l o t f C (T ++ [(x, 0, 0, 1)]) (T.length :: st) (fm, fh, fk, fl, ff, fc, ft, a1, a2, a3, a4, a5, a6, a7, a8, a9, a10, a11, a12, a13, a14, a15, a16, a17, a18, a19, a20, a21) → post (nI (st.length + 1)) (fm, fh, fk, fl, ff, fc, ft, a1, a2, a3, a4, a5, a6, a7, a8, a9, a10, a11, a12, a13, a14, a15, a16, a17, a18, a19, a20, a21)) : wpX_leaf post (fm, fh, fk, fl, ff, fc, ft, a1, a2, a3, a4, a5, a6, a7, a8, a9, a10, a11, a12, a13, a14, a15, a16, a17, a18, a19, a20, a21) (nI x) := by
  obtain ⟨g1, g2, g3, hh⟩ := h
  refine br_f (nI_pos (by omega)) (pk_le x 1 (fun _ => br_f (by rw [hh.1]; exact tl_n12 hT) ?_) (fun z => absurd z (by omega)))
  exact tl_make0 hh hT (by omega) (fun _ _ _ _ _ _ _ k => H _ _ _ _ _ _ _ _ _ _ _ _ _ _ _ _ _ _ _ _ _ _ _ _ _ _ _ _ ⟨g1, g2, g3, k⟩)
theorem tl_one_few (h : tl_I l o t f C T [] (fm, fh, fk, fl, ff, fc, ft, a1, a2, a3, a4, a5, a6, a7, a8, a9, a10, a11, a12, a13, a14, a15, a16, a17, a18, a19, a20, a21)) (hT : T.length < 12) (H : post (-3) (fm, fh, fk, fl, ff, fc, ft, a1, a2, a3, a4, a5, a6, a7, a8, a9, a10, a11, a12, a13, a14, a15, a16, a17, a18, a19, a20, a21)) : wpX_one post (fm, fh, fk, fl, ff, fc, ft, a1, a2, a3, a4, a5, a6, a7, a8, a9, a10, a11, a12, a13, a14, a15, a16, a17, a18, a19, a20, a21) := by
  obtain ⟨g1, g2, g3, hh⟩ := h
  exact br_f (by rw [hh.1]; exact tl_n12 hT) (br_f (by rw [hh.2.1]; decide) H)
theorem tl_two_few (h : tl_I l o t f C T st (fm, fh, fk, fl, ff, fc, ft, a1, a2, a3, a4, a5, a6, a7, a8, a9, a10, a11, a12, a13, a14, a15, a16, a17, a18, a19, a20, a21)) (hT : T.length < 12) (hst : st.length < 2) (H : post (-3) (fm, fh, fk, fl, ff, fc, ft, a1, a2, a3, a4, a5, a6, a7, a8, a9, a10, a11, a12, a13, a14, a15, a16, a17, a18, a19, a20, a21)) : wpX_two post (fm, fh, fk, fl, ff, fc, ft, a1, a2, a3, a4, a5, a6, a7, a8, a9, a10, a11, a12, a13, a14, a15, a16, a17, a18, a19, a20, a21) := by
  obtain ⟨g1, g2, g3, hh⟩ := h
  exact br_f (by rw [hh.1]; exact tl_n12 hT) (br_f (by rw [hh.2.1]; exact nI_ge (b := 2) hst (by decide)) H)
theorem tl_one {a : Nat} (h : tl_I l o t f C T (a :: st) (fm, fh, fk, fl, ff, fc, ft, a1, a2, a3, a4, a5, a6, a7, a8, a9, a10, a11, a12, a13, a14, a15, a16, a17, a18, a19, a20, a21)) (hT : T.length < 12) (hs : 1 + (tl_nd T a).2.2.2 ≤ 12) (H : ∀ (fm fh fk fl ff fc ft : Int32) (a1 a2 a3 a4 a5 a6 a7 a8 a9 a10 a11 a12 a13 a14 a15 a16 a17 a18 a19 a20 a21 : Nat → Int32), tl_I l o t f C (T ++ [(2, a, 0, 1 + (tl_nd T a).2.2.2)]) (T.length :: st) (fm, fh, fk, fl, ff, fc, ft, a1, a2, a3, a4, a5, a6, a7, a8, a9, a10, a11, a12, a13, a14, a15, a16, a17, a18, a19, a20, a21) → post (nI (st.length + 1)) (fm, fh, fk, fl, ff, fc, ft, a1, a2, a3, a4, a5, a6, a7, a8, a9, a10, a11, a12, a13, a14, a15, a16, a17, a18, a19, a20, a21)) : wpX_one post (fm, fh, fk, fl, ff, fc, ft, a1, a2, a3, a4, a5, a6, a7, a8, a9, a10, a11, a12, a13, a14, a15, a16, a17, a18, a19, a20, a21) := by
  obtain ⟨g1, g2, g3, hh⟩ := h
  have h4 : st.length + 1 ≤ T.length := hh.2.2.2.1
  refine br_f (by rw [hh.1]; exact tl_n12 hT) (br_t (by rw [hh.2.1]; exact nI_le (a := 1) (Nat.succ_pos _) (show st.length + 1 < 2 ^ 31 by omega)) ?_)
  exact tl_make1 (x := 2) hh hT (by omega) hs (fun _ _ _ _ _ _ _ k => H _ _ _ _ _ _ _ _ _ _ _ _ _ _ _ _ _ _ _ _ _ _ _ _ _ _ _ _ ⟨g1, g2, g3, k⟩)
theorem tl_two {a b : Nat} (h : tl_I l o t f C T (b :: a :: st) (fm, fh, fk, fl, ff, fc, ft, a1, a2, a3, a4, a5, a6, a7, a8, a9, a10, a11, a12, a13, a14, a15, a16, a17, a18, a19, a20, a21)) (hT : T.length < 12) (hs : 1 + (tl_nd T a).2.2.2 + (tl_nd T b).2.2.2 ≤ 12) (H : ∀ (fm fh fk fl ff fc ft : Int32) (a1 a2 a3 a4 a5 a6 a7 a8 a9 a10 a11 a12 a13 a14 a15 a16 a17 a18 a19 a20 a21 : Nat → Int32), tl_I l o t f C (T ++ [(3, a, b, 1 + (tl_nd T a).2.2.2 + (tl_nd T b).2.2.2)]) (T.length :: st) (fm, fh, fk, fl, ff, fc, ft, a1, a2, a3, a4, a5, a6, a7, a8, a9, a10, a11, a12, a13, a14, a15, a16, a17, a18, a19, a20, a21) → post (nI (st.length + 1)) (fm, fh, fk, fl, ff, fc, ft, a1, a2, a3, a4, a5, a6, a7, a8, a9, a10, a11, a12, a13, a14, a15, a16, a17, a18, a19, a20, a21)) : wpX_two post (fm, fh, fk, fl, ff, fc, ft, a1, a2, a3, a4, a5, a6, a7, a8, a9, a10, a11, a12, a13, a14, a15, a16, a17, a18, a19, a20, a21) := by
  obtain ⟨g1, g2, g3, hh⟩ := h
  have h4 : st.length + 1 + 1 ≤ T.length := hh.2.2.2.1
  refine br_f (by rw [hh.1]; exact tl_n12 hT) (br_t (by rw [hh.2.1]; exact nI_le (a := 2) (show 2 ≤ st.length + 1 + 1 by omega) (show st.length + 1 + 1 < 2 ^ 31 by omega)) ?_)
  exact tl_make2 (x := 3) hh hT (by omega) hs (fun _ _ _ _ _ _ _ k => H _ _ _ _ _ _ _ _ _ _ _ _ _ _ _ _ _ _ _ _ _ _ _ _ _ _ _ _ ⟨g1, g2, g3, k⟩)
end
end
section
/-! ===== letters of a tree ===== -/
def tl_push (n : Nat × Nat × Nat × Nat) (td : List Nat) : List Nat :=
  if n.1 = 3 then n.2.1 :: n.2.2.1 :: td else if n.1 < 2 then td else n.2.1 :: td
def tl_wr (T : List (Nat × Nat × Nat × Nat)) : Nat → List Nat → List Nat → Option (List Nat)
  | 0, _, _ => none
  | _ + 1, [], w => some w
  | g + 1, x :: td, w => if x < T.length ∧ td.length ≤ 13 ∧ w.length < 12 then tl_wr T g (tl_push (tl_nd T x) td) ((tl_nd T x).1 :: w) else none
theorem tl_write12 {post : Int32 → St2 → Prop} {T : List (Nat × Nat × Nat × Nat)} {w' : List Nat} {fm fh fk fl ff fc ft : Int32} {a1 a2 a3 a4 a5 a6 a7 a8 a9 a12 a13 a14 a15 a16 a17 a18 a19 a20 a21 : Nat → Int32} (hN : tl_Ns T a5 a6 a7 a8) (hT : T.length ≤ 12)
    (H : ∀ (a10 a11 : Nat → Int32), tl_Sk w' a11 → w'.length ≤ 12 → post (nI w'.length) (fm, fh, fk, fl, ff, fc, ft, a1, a2, a3, a4, a5, a6, a7, a8, a9, a10, a11, a12, a13, a14, a15, a16, a17, a18, a19, a20, a21)) :
    ∀ (g : Nat) (td w : List Nat) (a10 a11 : Nat → Int32), tl_wr T g td w = some w' → tl_Sk td a10 → tl_Sk w a11 → w.length ≤ 12 → wX_write_12 post fm fh fk fl ff fc ft g (nI td.length) (nI w.length) a1 a2 a3 a4 a5 a6 a7 a8 a9 a10 a11 a12 a13 a14 a15 a16 a17 a18 a19 a20 a21
  | 0, _, _, _, _, h, _, _, _ => (nomatch h)
  | g + 1, [], w, a10, a11, h, _, hw, hl => by
    have e : w = w' := Option.some.inj h
    subst e
    exact br_t tl_le0 (H a10 a11 hw hl)
  | g + 1, x :: td, w, a10, a11, h, hs, hw, hl => by
    have h' : (if x < T.length ∧ td.length ≤ 13 ∧ w.length < 12 then tl_wr T g (tl_push (tl_nd T x) td) ((tl_nd T x).1 :: w) else none) = some w' := h
    by_cases c : x < T.length ∧ td.length ≤ 13 ∧ w.length < 12
    · rw [if_pos c] at h'
      obtain ⟨c1, c2, c3⟩ := c
      have hn := hN x c1
      have l5 := hn.1.2
      have l6 := hn.2.1.2
      have l7 := hn.2.2.1.2
      have e5 : a5 (nI x).toNatClampNeg = nI (tl_nd T x).1 := (tl_at a5 x rfl (by omega)).trans hn.1.1
      have e6 : a6 (nI x).toNatClampNeg = nI (tl_nd T x).2.1 := (tl_at a6 x rfl (by omega)).trans hn.2.1.1
      have e7 : a7 (nI x).toNatClampNeg = nI (tl_nd T x).2.2.1 := (tl_at a7 x rfl (by omega)).trans hn.2.2.1.1
      have hw2 : tl_Sk ((tl_nd T x).1 :: w) (upd a11 w.length (nI (tl_nd T x).1)) := ⟨pk_us, tl_Sk_upd (Nat.le_refl _) hw⟩
      refine br_f (nI_nle (Nat.succ_pos _) (show td.length + 1 < 2 ^ 31 by omega)) (pk_le 12 w.length (fun z => absurd z (by omega)) (fun _ => nm_r (pk_m1 td.length) ⟨pk_in td.length 16 (by omega), nm_r (e' := nI x) (by rw [nI_clamp (by omega)]; exact hs.1) ⟨pk_in x 12 (by omega), pk_in w.length 12 (by omega), ?_⟩⟩))
      refine nm_r (e' := upd a11 w.length (nI (tl_nd T x).1)) (by rw [e5, nI_clamp (show w.length < 2 ^ 31 by omega), tl_nar (by omega)]) (nm_r (nI_1 w.length) ⟨pk_in x 12 (by omega), ?_⟩)
      refine pk_eq (tl_nd T x).1 3 (fun z => ⟨pk_in x 12 (by omega), pk_in td.length 16 (by omega), ?_⟩) (fun z => ⟨pk_in x 12 (by omega), ?_⟩) e5 rfl
      · have hp : tl_push (tl_nd T x) td = (tl_nd T x).2.1 :: (tl_nd T x).2.2.1 :: td := if_pos z
        rw [hp] at h'
        refine nm_r (e' := upd a10 td.length (nI (tl_nd T x).2.2.1)) (by rw [e7, nI_clamp (show td.length < 2 ^ 31 by omega), tl_nar (by omega)]) (nm_r (nI_1 td.length) ⟨pk_in x 12 (by omega), ?_⟩)
        refine pk_lt (tl_nd T x).1 2 (fun z2 => absurd z2 (by omega)) (fun _ => ⟨pk_in x 12 (by omega), pk_in (td.length + 1) 16 (by omega), ?_⟩) e5 rfl
        refine nm_r (e' := upd (upd a10 td.length (nI (tl_nd T x).2.2.1)) (td.length + 1) (nI (tl_nd T x).2.1)) (by rw [e6, nI_clamp (show td.length + 1 < 2 ^ 31 by omega), tl_nar (by omega)]) (nm_r (nI_1 (td.length + 1)) ?_)
        exact tl_write12 hN hT H g ((tl_nd T x).2.1 :: (tl_nd T x).2.2.1 :: td) ((tl_nd T x).1 :: w) _ _ h' ⟨pk_us, tl_Sk_upd (r := (tl_nd T x).2.2.1 :: td) (Nat.le_refl _) ⟨pk_us, tl_Sk_upd (Nat.le_refl _) hs.2⟩⟩ hw2 c3
      · refine pk_lt (tl_nd T x).1 2 (fun z2 => ?_) (fun z2 => ⟨pk_in x 12 (by omega), pk_in td.length 16 (by omega), ?_⟩) e5 rfl
        · have hp : tl_push (tl_nd T x) td = td := (if_neg z).trans (if_pos z2)
          rw [hp] at h'
          exact tl_write12 hN hT H g td ((tl_nd T x).1 :: w) _ _ h' hs.2 hw2 c3
        · have hp : tl_push (tl_nd T x) td = (tl_nd T x).2.1 :: td := (if_neg z).trans (if_neg (by omega))
          rw [hp] at h'
          refine nm_r (e' := upd a10 td.length (nI (tl_nd T x).2.1)) (by rw [e6, nI_clamp (show td.length < 2 ^ 31 by omega), tl_nar (by omega)]) (nm_r (nI_1 td.length) ?_)
          exact tl_write12 hN hT H g ((tl_nd T x).2.1 :: td) ((tl_nd T x).1 :: w) _ _ h' ⟨pk_us, tl_Sk_upd (Nat.le_refl _) hs.2⟩ hw2 c3
    · rw [if_neg c] at h'
      exact (nomatch h')
section
variable {l o t f : Nat → Nat} {C : (Nat → Int32) → Prop} {T : List (Nat × Nat × Nat × Nat)} {st : List Nat} {post : Int32 → St2 → Prop} {pst : Int32 → Prop} {fm fh fk fl ff fc ft : Int32} {a1 a2 a3 a4 a5 a6 a7 a8 a9 a10 a11 a12 a13 a14 a15 a16 a17 a18 a19 a20 a21 : Nat → Int32}
theorem tl_letterE {p : Int32} (h : tl_I l o t f C T [] (fm, fh, fk, fl, ff, fc, ft, a1, a2, a3, a4, a5, a6, a7, a8, a9, a10, a11, a12, a13, a14, a15, a16, a17, a18, a19, a20, a21)) (H : post (-4) (fm, fh, fk, fl, ff, fc, ft, a1, a2, a3, a4, a5, a6, a7, a8, a9, a10, a11, a12, a13, a14, a15, a16, a17, a18, a19, a20, a21)) : wpX_letter post (fm, fh, fk, fl, ff, fc, ft, a1, a2, a3, a4, a5, a6, a7, a8, a9, a10, a11, a12, a13, a14, a15, a16, a17, a18, a19, a20, a21) p := by
  unfold wpX_letter
  dsimp only
  exact tl_topE h (br_f tl_m1n H)
theorem tl_letterW {x g : Nat} {w : List Nat} {p : Int32} (h : tl_I l o t f C T (x :: st) (fm, fh, fk, fl, ff, fc, ft, a1, a2, a3, a4, a5, a6, a7, a8, a9, a10, a11, a12, a13, a14, a15, a16, a17, a18, a19, a20, a21)) (hw : tl_wr T g [x] [] = some w)
    (H : ∀ (fm fh fk fl ff fc ft : Int32) (a1 a2 a3 a4 a5 a6 a7 a8 a9 a10 a11 a12 a13 a14 a15 a16 a17 a18 a19 a20 a21 : Nat → Int32), tl_I l o t f C T (x :: st) (fm, fh, fk, fl, ff, fc, ft, a1, a2, a3, a4, a5, a6, a7, a8, a9, a10, a11, a12, a13, a14, a15, a16, a17, a18, a19, a20, a21) → tl_Sk w a11 → w.length ≤ 12 → ((p < 0 → post (-4) (fm, fh, fk, fl, ff, fc, ft, a1, a2, a3, a4, a5, a6, a7, a8, a9, a10, a11, a12, a13, a14, a15, a16, a17, a18, a19, a20, a21)) ∧ (¬ p < 0 → ((p < nI w.length → vp_in p 12 ∧ post (a11 p.toNatClampNeg) (fm, fh, fk, fl, ff, fc, ft, a1, a2, a3, a4, a5, a6, a7, a8, a9, a10, a11, a12, a13, a14, a15, a16, a17, a18, a19, a20, a21)) ∧ (¬ p < nI w.length → post (-4) (fm, fh, fk, fl, ff, fc, ft, a1, a2, a3, a4, a5, a6, a7, a8, a9, a10, a11, a12, a13, a14, a15, a16, a17, a18, a19, a20, a21)))))) : wpX_letter post (fm, fh, fk, fl, ff, fc, ft, a1, a2, a3, a4, a5, a6, a7, a8, a9, a10, a11, a12, a13, a14, a15, a16, a17, a18, a19, a20, a21) p := by
  unfold wpX_letter
  dsimp only
  have hx := tl_top_lt h
  refine tl_top h (br_t (nI_pos' (by omega)) ?_)
  obtain ⟨g1, g2, g3, hh⟩ := h
  refine nm_r (e' := upd a10 0 (nI x)) (by rw [tl_b8 x (by omega)]) ⟨g, ?_⟩
  exact tl_write12 (w' := w) hh.2.2.2.2.2.2 hh.2.2.1 (fun _ _ k1 k2 => H _ _ _ _ _ _ _ _ _ _ _ _ _ _ _ _ _ _ _ _ _ _ _ _ _ _ _ _ ⟨g1, g2, g3, hh⟩ k1 k2) g [x] [] (upd a10 0 (nI x)) a11 hw ⟨pk_us, trivial⟩ trivial (Nat.zero_le _)
theorem tl_letter {x g j : Nat} {w : List Nat} (h : tl_I l o t f C T (x :: st) (fm, fh, fk, fl, ff, fc, ft, a1, a2, a3, a4, a5, a6, a7, a8, a9, a10, a11, a12, a13, a14, a15, a16, a17, a18, a19, a20, a21)) (hw : tl_wr T g [x] [] = some w) (hj : j < w.length)
    (H : ∀ (fm fh fk fl ff fc ft : Int32) (a1 a2 a3 a4 a5 a6 a7 a8 a9 a10 a11 a12 a13 a14 a15 a16 a17 a18 a19 a20 a21 : Nat → Int32), tl_I l o t f C T (x :: st) (fm, fh, fk, fl, ff, fc, ft, a1, a2, a3, a4, a5, a6, a7, a8, a9, a10, a11, a12, a13, a14, a15, a16, a17, a18, a19, a20, a21) → post (nI (w.getD (w.length - 1 - j) 0)) (fm, fh, fk, fl, ff, fc, ft, a1, a2, a3, a4, a5, a6, a7, a8, a9, a10, a11, a12, a13, a14, a15, a16, a17, a18, a19, a20, a21)) : wpX_letter post (fm, fh, fk, fl, ff, fc, ft, a1, a2, a3, a4, a5, a6, a7, a8, a9, a10, a11, a12, a13, a14, a15, a16, a17, a18, a19, a20, a21) (nI j) := by
  refine tl_letterW h hw (fun fm fh fk fl ff fc ft a1 a2 a3 a4 a5 a6 a7 a8 a9 a10 a11 a12 a13 a14 a15 a16 a17 a18 a19 a20 a21 k k1 k2 => ?_)
  refine br_f (nI_pos (by omega)) (br_t (nI_lt hj (by omega)) ⟨pk_in j 12 (by omega), ?_⟩)
  rw [nI_clamp (by omega), tl_Sk_at hj k1]
  exact H _ _ _ _ _ _ _ _ _ _ _ _ _ _ _ _ _ _ _ _ _ _ _ _ _ _ _ _ k
theorem tl_letter_out {x g j : Nat} {w : List Nat} (h : tl_I l o t f C T (x :: st) (fm, fh, fk, fl, ff, fc, ft, a1, a2, a3, a4, a5, a6, a7, a8, a9, a10, a11, a12, a13, a14, a15, a16, a17, a18, a19, a20, a21)) (hw : tl_wr T g [x] [] = some w) (hj : w.length ≤ j) (hj2 : j < 2 ^ 31)
    (H : ∀ (fm fh fk fl ff fc ft : Int32) (a1 a2 a3 a4 a5 a6 a7 a8 a9 a10 a11 a12 a13 a14 a15 a16 a17 a18 a19 a20 a21 : Nat → Int32), tl_I l o t f C T (x :: st) (fm, fh, fk, fl, ff, fc, ft, a1, a2, a3, a4, a5, a6, a7, a8, a9, a10, a11, a12, a13, a14, a15, a16, a17, a18, a19, a20, a21) → post (-4) (fm, fh, fk, fl, ff, fc, ft, a1, a2, a3, a4, a5, a6, a7, a8, a9, a10, a11, a12, a13, a14, a15, a16, a17, a18, a19, a20, a21)) : wpX_letter post (fm, fh, fk, fl, ff, fc, ft, a1, a2, a3, a4, a5, a6, a7, a8, a9, a10, a11, a12, a13, a14, a15, a16, a17, a18, a19, a20, a21) (nI j) := by
  refine tl_letterW h hw (fun fm fh fk fl ff fc ft a1 a2 a3 a4 a5 a6 a7 a8 a9 a10 a11 a12 a13 a14 a15 a16 a17 a18 a19 a20 a21 k k1 k2 => ?_)
  exact br_f (nI_pos hj2) (br_f (nI_nlt hj hj2) (H _ _ _ _ _ _ _ _ _ _ _ _ _ _ _ _ _ _ _ _ _ _ _ _ _ _ _ _ k))
end
/-! ===== the number of a tree ===== -/
abbrev tl_rkP (T : List (Nat × Nat × Nat × Nat)) (R : Nat → Nat) (k : Nat) : Prop :=
  ((tl_nd T k).1 < 2 → R k = (tl_nd T k).1) ∧
  ((tl_nd T k).1 = 2 → (tl_nd T k).2.1 < k ∧ R k = R (tl_nd T k).2.1) ∧
  ((tl_nd T k).1 = 3 → (tl_nd T k).2.1 < k ∧ (tl_nd T k).2.2.1 < k ∧ 1 ≤ (tl_nd T (tl_nd T k).2.1).2.2.2 ∧ (tl_nd T (tl_nd T k).2.1).2.2.2 + 1 ≤ (tl_nd T k).2.2.2 ∧
    R k = tl_ps (tl_nd T k).2.2.2 (tl_nd T (tl_nd T k).2.1).2.2.2 + (R (tl_nd T k).2.1 * tl_tt (tl_nd T (tl_nd T k).2.2.1).2.2.2 + R (tl_nd T k).2.2.1))
theorem tl_fill {R : Nat → Nat} {s : Nat → Int32} {k : Nat} {v : Int32} (h : ∀ j, j < k → s j = nI (R j)) (hv : v = nI (R k)) : ∀ j, j < k + 1 → upd s k v j = nI (R j) := by
  intro j hj
  by_cases e : j = k
  · rw [e, pk_us, hv]
  · rw [pk_un e]
    exact h j (by omega)
theorem tl_rank139 {post : Int32 → St2 → Prop} {J : Int32 → (Nat → Int32) → (Nat → Int32) → (Nat → Int32) → (Nat → Int32) → (Nat → Int32) → (Nat → Int32) → (Nat → Int32) → (Nat → Int32) → (Nat → Int32) → (Nat → Int32) → (Nat → Int32) → (Nat → Int32) → (Nat → Int32) → (Nat → Int32) → (Nat → Int32) → (Nat → Int32) → (Nat → Int32) → (Nat → Int32) → (Nat → Int32) → (Nat → Int32) → (Nat → Int32) → Prop} {R : Nat → Nat} {x1 : Int32} {k n a sa c : Nat} {fm fh fk fl ff fc ft : Int32} {a1 a2 a3 a4 a5 a6 a7 a8 a9 a10 a11 a12 a13 a14 a15 a16 a17 a18 a19 a20 a21 : Nat → Int32}
    (hA : ∀ j, j < 13 → a15 j = nI (tl_tt j)) (hk : k < 12) (ha : a < 12) (h8 : a8 a = nI sa) (hsa : 1 ≤ sa) (hsn : sa + 1 ≤ n) (hn : n ≤ 12) (hR : R k = tl_ps n sa + c) (h0 : ∀ j, j < k → a12 j = nI (R j)) (h1 : a12 k = nI (tl_ps n 1 + c))
    (H : ∀ s : Nat → Int32, (∀ j, j < k + 1 → s j = nI (R j)) → J (nI (k + 1)) a1 a2 a3 a4 a5 a6 a7 a8 a9 a10 a11 s a13 a14 a15 a16 a17 a18 a19 a20 a21) : ∃ fu, wX_rank_139 post J x1 (nI k) (nI n) (nI a) fm fh fk fl ff fc ft fu 1 a1 a2 a3 a4 a5 a6 a7 a8 a9 a10 a11 a12 a13 a14 a15 a16 a17 a18 a19 a20 a21 := by
  have e8 : a8 (nI a).toNatClampNeg = nI sa := (tl_at a8 a rfl (by omega)).trans h8
  refine pk_loop (σ := Nat → Int32) (fun g i s => wX_rank_139 post J x1 (nI k) (nI n) (nI a) fm fh fk fl ff fc ft g (nI i) a1 a2 a3 a4 a5 a6 a7 a8 a9 a10 a11 s a13 a14 a15 a16 a17 a18 a19 a20 a21) (fun i s => (∀ j, j < k → s j = nI (R j)) ∧ s k = nI (tl_ps n i + c)) sa 1 a12 hsa ⟨h0, h1⟩
    (fun g s h => ⟨pk_in a 12 ha, pk_le sa sa (fun _ => nm_r (nI_1 k) (H s (fun j hj => ?_))) (fun z => absurd z (by omega)) e8⟩)
    (fun g i s hi h hw => ⟨pk_in a 12 ha, pk_le sa i (fun z => absurd z (by omega)) (fun _ => ⟨pk_in k 12 hk, pk_in i 13 (by omega), pk_in (n - 1 - i) 13 (by omega) (tl_sub2 (by omega)), pk_in k 12 hk, ?_⟩) e8⟩)
  · by_cases e : j = k
    · rw [e, h.2, hR]
    · exact h.1 j (by omega)
  · refine nm_r (e' := upd s k (nI (tl_ps n (i + 1) + c))) ?_ (nm_r (nI_1 i) (hw _ ⟨fun j hj => ?_, pk_us⟩))
    · rw [nI_clamp (show k < 2 ^ 31 by omega), nI_clamp (show i < 2 ^ 31 by omega), pk_cl (n - 1 - i) (tl_sub2 (by omega)) (by omega), hA i (by omega), hA (n - 1 - i) (by omega), h.2, pk_mul, nI_add]
      congr 2
      show tl_ps n i + c + tl_tt i * tl_tt (n - 1 - i) = tl_ps n i + tl_tt i * tl_tt (n - 1 - i) + c
      omega
    · rw [pk_un (by omega)]
      exact h.1 j hj
theorem tl_rank14 {post : Int32 → St2 → Prop} {T : List (Nat × Nat × Nat × Nat)} {R : Nat → Nat} {x : Nat} {fm fh fk fl ff fc ft : Int32} {a1 a2 a3 a4 a5 a6 a7 a8 a9 a10 a11 a12 a13 a14 a15 a16 a17 a18 a19 a20 a21 : Nat → Int32} (hN : tl_Ns T a5 a6 a7 a8) (hT : T.length ≤ 12) (hA : ∀ j, j < 13 → a15 j = nI (tl_tt j)) (hx : x < T.length) (hR : ∀ k, k ≤ x → tl_rkP T R k)
    (H : ∀ a12 : Nat → Int32, post (nI (R x)) (fm, fh, fk, fl, ff, fc, ft, a1, a2, a3, a4, a5, a6, a7, a8, a9, a10, a11, a12, a13, a14, a15, a16, a17, a18, a19, a20, a21)) : ∃ fu, wX_rank_14 post (nI x) fm fh fk fl ff fc ft fu 0 a1 a2 a3 a4 a5 a6 a7 a8 a9 a10 a11 a12 a13 a14 a15 a16 a17 a18 a19 a20 a21 := by
  refine pk_loop (σ := Nat → Int32) (fun g k s => wX_rank_14 post (nI x) fm fh fk fl ff fc ft g (nI k) a1 a2 a3 a4 a5 a6 a7 a8 a9 a10 a11 s a13 a14 a15 a16 a17 a18 a19 a20 a21) (fun k s => ∀ j, j < k → s j = nI (R j)) (x + 1) 0 a12 (by omega) (fun j hj => absurd hj (by omega))
    (fun g s h => pk_lt x (x + 1) (fun _ => ⟨pk_in x 12 (by omega), ?_⟩) (fun z => absurd z (by omega)))
    (fun g k s hk h hw => pk_lt x k (fun z => absurd z (by omega)) (fun _ => ⟨pk_in k 12 (by omega), ?_⟩))
  · rw [nI_clamp (by omega), h x (by omega)]
    exact H s
  · have hn := hN k (by omega)
    have l5 := hn.1.2
    have l6 := hn.2.1.2
    have l7 := hn.2.2.1.2
    have l8 := hn.2.2.2.2
    have e5 : a5 (nI k).toNatClampNeg = nI (tl_nd T k).1 := (tl_at a5 k rfl (by omega)).trans hn.1.1
    have e6 : a6 (nI k).toNatClampNeg = nI (tl_nd T k).2.1 := (tl_at a6 k rfl (by omega)).trans hn.2.1.1
    have e7 : a7 (nI k).toNatClampNeg = nI (tl_nd T k).2.2.1 := (tl_at a7 k rfl (by omega)).trans hn.2.2.1.1
    have e8 : a8 (nI k).toNatClampNeg = nI (tl_nd T k).2.2.2 := (tl_at a8 k rfl (by omega)).trans hn.2.2.2.1
    obtain ⟨r1, r2, r3⟩ := hR k (by omega)
    refine nm_r e8 ⟨pk_in k 12 (by omega), nm_r e6 ⟨pk_in k 12 (by omega), nm_r e7 ⟨pk_in k 12 (by omega), ?_⟩⟩⟩
    refine pk_le 2 (tl_nd T k).1 (fun z => ⟨pk_in k 12 (by omega), ?_⟩) (fun z => ⟨pk_in k 12 (by omega), pk_in k 12 (by omega), ?_⟩) rfl e5
    · refine pk_eq (tl_nd T k).1 2 (fun z2 => ?_) (fun z2 => ?_) e5 rfl
      · obtain ⟨q1, q2⟩ := r2 z2
        refine ⟨pk_in (tl_nd T k).2.1 12 l6, pk_in k 12 (by omega), nm_r (e' := upd s k (nI (R k))) ?_ (nm_r (nI_1 k) (hw _ (tl_fill h rfl)))⟩
        rw [nI_clamp (show (tl_nd T k).2.1 < 2 ^ 31 by omega), nI_clamp (show k < 2 ^ 31 by omega), h _ q1, q2]
      · obtain ⟨q1, q2, q3, q4, q5⟩ := r3 (by omega)
        have na := hN (tl_nd T k).2.1 (by omega)
        have nb := hN (tl_nd T k).2.2.1 (by omega)
        have lb := nb.2.2.2.2
        have eb : a8 (nI (tl_nd T k).2.2.1).toNatClampNeg = nI (tl_nd T (tl_nd T k).2.2.1).2.2.2 := (tl_at a8 _ rfl (by omega)).trans nb.2.2.2.1
        refine ⟨pk_in ((tl_nd T k).2.2.2 - 1) 13 (by omega) (tl_sub1 (by omega)), pk_in (tl_nd T k).2.1 12 l6, pk_in (tl_nd T k).2.2.1 12 l7, pk_in (tl_nd T (tl_nd T k).2.2.1).2.2.2 13 (by omega) eb, pk_in (tl_nd T k).2.2.1 12 l7, pk_in k 12 (by omega), ?_⟩
        refine nm_r (e' := upd s k (nI (tl_ps (tl_nd T k).2.2.2 1 + (R (tl_nd T k).2.1 * tl_tt (tl_nd T (tl_nd T k).2.2.1).2.2.2 + R (tl_nd T k).2.2.1)))) ?_ ?_
        · rw [pk_cl ((tl_nd T k).2.2.2 - 1) (tl_sub1 (by omega)) (by omega), eb, nI_clamp (show (tl_nd T k).2.1 < 2 ^ 31 by omega), nI_clamp (show (tl_nd T (tl_nd T k).2.2.1).2.2.2 < 2 ^ 31 by omega), nI_clamp (show (tl_nd T k).2.2.1 < 2 ^ 31 by omega), nI_clamp (show k < 2 ^ 31 by omega), hA _ (by omega), hA _ (by omega), h _ q1, h _ q2, pk_mul, nI_add, nI_add, tl_ps1, Nat.add_assoc]
        · exact tl_rank139 (R := R) (sa := (tl_nd T (tl_nd T k).2.1).2.2.2) (c := R (tl_nd T k).2.1 * tl_tt (tl_nd T (tl_nd T k).2.2.1).2.2.2 + R (tl_nd T k).2.2.1) hA (by omega) l6 na.2.2.2.1 q3 q4 l8 q5 (fun j hj => by rw [pk_un (by omega)]; exact h j hj) pk_us (fun s' hs' => hw s' hs')
    · refine nm_r (e' := upd s k (nI (R k))) ?_ (nm_r (nI_1 k) (hw _ (tl_fill h rfl)))
      rw [e5, nI_clamp (show k < 2 ^ 31 by omega), r1 (by omega)]
section
variable {l o t f : Nat → Nat} {C : (Nat → Int32) → Prop} {T : List (Nat × Nat × Nat × Nat)} {st : List Nat} {post : Int32 → St2 → Prop} {pst : Int32 → Prop} {fm fh fk fl ff fc ft : Int32} {a1 a2 a3 a4 a5 a6 a7 a8 a9 a10 a11 a12 a13 a14 a15 a16 a17 a18 a19 a20 a21 : Nat → Int32}
theorem tl_rankE (h : tl_I l o t f C T [] (fm, fh, fk, fl, ff, fc, ft, a1, a2, a3, a4, a5, a6, a7, a8, a9, a10, a11, a12, a13, a14, a15, a16, a17, a18, a19, a20, a21)) (H : post (-4) (fm, fh, fk, fl, ff, fc, ft, a1, a2, a3, a4, a5, a6, a7, a8, a9, a10, a11, a12, a13, a14, a15, a16, a17, a18, a19, a20, a21)) : wpX_rank post (fm, fh, fk, fl, ff, fc, ft, a1, a2, a3, a4, a5, a6, a7, a8, a9, a10, a11, a12, a13, a14, a15, a16, a17, a18, a19, a20, a21) := by
  unfold wpX_rank
  dsimp only
  exact tl_topE h (br_f tl_m1n H)
theorem tl_rank {R : Nat → Nat} {x : Nat} (h : tl_I l o t f C T (x :: st) (fm, fh, fk, fl, ff, fc, ft, a1, a2, a3, a4, a5, a6, a7, a8, a9, a10, a11, a12, a13, a14, a15, a16, a17, a18, a19, a20, a21)) (hR : ∀ k, k ≤ x → tl_rkP T R k)
    (H : ∀ (fm fh fk fl ff fc ft : Int32) (a1 a2 a3 a4 a5 a6 a7 a8 a9 a10 a11 a12 a13 a14 a15 a16 a17 a18 a19 a20 a21 : Nat → Int32), tl_I l o t f C T (x :: st) (fm, fh, fk, fl, ff, fc, ft, a1, a2, a3, a4, a5, a6, a7, a8, a9, a10, a11, a12, a13, a14, a15, a16, a17, a18, a19, a20, a21) → post (nI (R x)) (fm, fh, fk, fl, ff, fc, ft, a1, a2, a3, a4, a5, a6, a7, a8, a9, a10, a11, a12, a13, a14, a15, a16, a17, a18, a19, a20, a21)) : wpX_rank post (fm, fh, fk, fl, ff, fc, ft, a1, a2, a3, a4, a5, a6, a7, a8, a9, a10, a11, a12, a13, a14, a15, a16, a17, a18, a19, a20, a21) := by
  unfold wpX_rank
  dsimp only
  have hx := tl_top_lt h
  refine tl_top h (br_t (nI_pos' (by omega)) ?_)
  obtain ⟨g1, g2, g3, hh⟩ := h
  exact tl_rank14 hh.2.2.2.2.2.2 hh.2.2.1 g3 hx.1 hR (fun _ => H _ _ _ _ _ _ _ _ _ _ _ _ _ _ _ _ _ _ _ _ _ _ _ _ _ _ _ _ ⟨g1, g2, g3, hh⟩)
end
end
section
/-! ===== sets of states ===== -/
def tl_prP (l o t : Nat → Nat) (T : List (Nat × Nat × Nat × Nat)) (P : Nat → Nat) (k : Nat) : Prop :=
  P k < 256 ∧ ((tl_nd T k).1 < 2 → P k = tl_LP l (tl_nd T k).1) ∧
  ((tl_nd T k).1 = 2 → (tl_nd T k).2.1 < k ∧ P k = tl_OP o (P (tl_nd T k).2.1)) ∧
  ((tl_nd T k).1 = 3 → (tl_nd T k).2.1 < k ∧ (tl_nd T k).2.2.1 < k ∧ P k = tl_TP t (P (tl_nd T k).2.1) (P (tl_nd T k).2.2.1))
theorem tl_pairOf {post : Int32 → St2 → Prop} {l o t : Nat → Nat} {T : List (Nat × Nat × Nat × Nat)} {P : Nat → Nat} {x : Nat} {fm fh fk fl ff fc ft : Int32} {a1 a2 a3 a4 a5 a6 a7 a8 a9 a10 a11 a12 a13 a14 a15 a16 a17 a18 a19 a20 a21 : Nat → Int32} (hl : tl_ok a1 l 4) (ho : tl_ok a2 o 8) (ht : tl_ok a3 t 32) (hN : tl_Ns T a5 a6 a7 a8) (hT : T.length ≤ 12) (hx : x < T.length) (hP : ∀ k, k ≤ x → tl_prP l o t T P k)
    (H : ∀ a12 : Nat → Int32, post (nI (P x)) (fm, fh, fk, fl, ff, fc, ft, a1, a2, a3, a4, a5, a6, a7, a8, a9, a10, a11, a12, a13, a14, a15, a16, a17, a18, a19, a20, a21)) : wpX_pairOf post (fm, fh, fk, fl, ff, fc, ft, a1, a2, a3, a4, a5, a6, a7, a8, a9, a10, a11, a12, a13, a14, a15, a16, a17, a18, a19, a20, a21) (nI x) := by
  refine pk_loop (σ := Nat → Int32) (fun g k s => wX_pairOf_2 post (nI x) fm fh fk fl ff fc ft g (nI k) a1 a2 a3 a4 a5 a6 a7 a8 a9 a10 a11 s a13 a14 a15 a16 a17 a18 a19 a20 a21) (fun k s => ∀ j, j < k → s j = nI (P j)) (x + 1) 0 a12 (by omega) (fun j hj => absurd hj (by omega))
    (fun g s h => pk_lt x (x + 1) (fun _ => ⟨pk_in x 12 (by omega), ?_⟩) (fun z => absurd z (by omega)))
    (fun g k s hk h hw => pk_lt x k (fun z => absurd z (by omega)) (fun _ => ⟨pk_in k 12 (by omega), ?_⟩))
  · rw [nI_clamp (by omega), h x (by omega)]
    exact H s
  · have hn := hN k (by omega)
    have l5 := hn.1.2
    have l6 := hn.2.1.2
    have l7 := hn.2.2.1.2
    have e5 : a5 (nI k).toNatClampNeg = nI (tl_nd T k).1 := (tl_at a5 k rfl (by omega)).trans hn.1.1
    have e6 : a6 (nI k).toNatClampNeg = nI (tl_nd T k).2.1 := (tl_at a6 k rfl (by omega)).trans hn.2.1.1
    have e7 : a7 (nI k).toNatClampNeg = nI (tl_nd T k).2.2.1 := (tl_at a7 k rfl (by omega)).trans hn.2.2.1.1
    obtain ⟨p0, p1, p2, p3⟩ := hP k (by omega)
    have ek : (nI k).toNatClampNeg = k := nI_clamp (by omega)
    refine ⟨pk_in (tl_nd T k).2.1 12 l6 e6, fun x3 e3 => ⟨pk_in k 12 (by omega), pk_in (tl_nd T k).2.2.1 12 l7 e7, fun x4 e4 => ⟨pk_in k 12 (by omega), ?_⟩⟩⟩
    refine pk_le 2 (tl_nd T k).1 (fun z => ⟨pk_in k 12 (by omega), ?_⟩) (fun z => ⟨pk_in k 12 (by omega), ?_⟩) rfl e5
    · refine pk_eq (tl_nd T k).1 2 (fun z2 => ?_) (fun z2 => ?_) e5 rfl
      · obtain ⟨q1, q2⟩ := p2 z2
        have e3' : x3 = nI (P (tl_nd T k).2.1) := by
          rw [e3, e6, nI_clamp (by omega)]
          exact h _ q1
        have b := (hP _ (show (tl_nd T k).2.1 ≤ x by omega)).1
        rw [e3']
        exact tl_onePair ho (by omega) ⟨pk_in k 12 (by omega), nm_r (e' := upd s k (nI (P k))) (by rw [ek, q2]) (nm_r (nI_1 k) (hw _ (tl_fill h rfl)))⟩
      · obtain ⟨q1, q2, q3⟩ := p3 (by omega)
        have e3' : x3 = nI (P (tl_nd T k).2.1) := by
          rw [e3, e6, nI_clamp (by omega)]
          exact h _ q1
        have e4' : x4 = nI (P (tl_nd T k).2.2.1) := by
          rw [e4, e7, nI_clamp (by omega)]
          exact h _ q2
        have b := (hP _ (show (tl_nd T k).2.1 ≤ x by omega)).1
        have c := (hP _ (show (tl_nd T k).2.2.1 ≤ x by omega)).1
        rw [e3', e4']
        exact tl_twoPair ht (by omega) (by omega) ⟨pk_in k 12 (by omega), nm_r (e' := upd s k (nI (P k))) (by rw [ek, q3]) (nm_r (nI_1 k) (hw _ (tl_fill h rfl)))⟩
    · rw [e5]
      exact tl_leafPair hl (by omega) ⟨pk_in k 12 (by omega), nm_r (e' := upd s k (nI (P k))) (by rw [ek, p1 (by omega)]) (nm_r (nI_1 k) (hw _ (tl_fill h rfl)))⟩
theorem tl_bA_t {post : Int32 → Prop} {p : Int32} {u : St2} (h : p < 0 ∨ ¬ p ≤ 1) (H : post 1) : wpX_badAutomaton post u p := by
  rcases h with z | z
  · exact br_t z H
  · exact br_c (fun _ => H) (fun _ => br_f z H)
theorem tl_bA_f {post : Int32 → Prop} {m : Nat} {u : St2} (h : m < 2) (H : post 0) : wpX_badAutomaton post u (nI m) :=
  br_f (nI_pos (by omega)) (br_t (nI_le (b := 1) (by omega) (by omega)) H)
section
variable {l o t f : Nat → Nat} {C : (Nat → Int32) → Prop} {T : List (Nat × Nat × Nat × Nat)} {st : List Nat} {post : Int32 → St2 → Prop} {pst : Int32 → Prop} {fm fh fk fl ff fc ft : Int32} {a1 a2 a3 a4 a5 a6 a7 a8 a9 a10 a11 a12 a13 a14 a15 a16 a17 a18 a19 a20 a21 : Nat → Int32}
theorem tl_states_bad {p : Int32} (hp : p < 0 ∨ ¬ p ≤ 1) (H : post (-1) (fm, fh, fk, fl, ff, fc, ft, a1, a2, a3, a4, a5, a6, a7, a8, a9, a10, a11, a12, a13, a14, a15, a16, a17, a18, a19, a20, a21)) : wpX_states post (fm, fh, fk, fl, ff, fc, ft, a1, a2, a3, a4, a5, a6, a7, a8, a9, a10, a11, a12, a13, a14, a15, a16, a17, a18, a19, a20, a21) p := by
  unfold wpX_states
  dsimp only
  exact tl_bA_t hp (br_f tl_one_ne H)
theorem tl_statesE {m : Nat} (h : tl_I l o t f C T [] (fm, fh, fk, fl, ff, fc, ft, a1, a2, a3, a4, a5, a6, a7, a8, a9, a10, a11, a12, a13, a14, a15, a16, a17, a18, a19, a20, a21)) (hm : m < 2) (H : post (-4) (fm, fh, fk, fl, ff, fc, ft, a1, a2, a3, a4, a5, a6, a7, a8, a9, a10, a11, a12, a13, a14, a15, a16, a17, a18, a19, a20, a21)) : wpX_states post (fm, fh, fk, fl, ff, fc, ft, a1, a2, a3, a4, a5, a6, a7, a8, a9, a10, a11, a12, a13, a14, a15, a16, a17, a18, a19, a20, a21) (nI m) := by
  unfold wpX_states
  dsimp only
  exact tl_bA_f hm (br_t rfl (tl_topE h (br_f tl_m1n H)))
theorem tl_states {P : Nat → Nat} {m x : Nat} (h : tl_I l o t f C T (x :: st) (fm, fh, fk, fl, ff, fc, ft, a1, a2, a3, a4, a5, a6, a7, a8, a9, a10, a11, a12, a13, a14, a15, a16, a17, a18, a19, a20, a21)) (hm : m < 2) (hP : ∀ k, k ≤ x → tl_prP l o t T P k)
    (H : ∀ (fm fh fk fl ff fc ft : Int32) (a1 a2 a3 a4 a5 a6 a7 a8 a9 a10 a11 a12 a13 a14 a15 a16 a17 a18 a19 a20 a21 : Nat → Int32), tl_I l o t f C T (x :: st) (fm, fh, fk, fl, ff, fc, ft, a1, a2, a3, a4, a5, a6, a7, a8, a9, a10, a11, a12, a13, a14, a15, a16, a17, a18, a19, a20, a21) → post (nI (if m = 0 then P x % 16 else P x / 16)) (fm, fh, fk, fl, ff, fc, ft, a1, a2, a3, a4, a5, a6, a7, a8, a9, a10, a11, a12, a13, a14, a15, a16, a17, a18, a19, a20, a21)) : wpX_states post (fm, fh, fk, fl, ff, fc, ft, a1, a2, a3, a4, a5, a6, a7, a8, a9, a10, a11, a12, a13, a14, a15, a16, a17, a18, a19, a20, a21) (nI m) := by
  unfold wpX_states
  dsimp only
  have hx := tl_top_lt h
  have hb := (hP x (Nat.le_refl x)).1
  refine tl_bA_f hm (br_t rfl (tl_top h (br_t (nI_pos' (by omega)) ?_)))
  obtain ⟨g1, g2, g3, hh⟩ := h
  refine tl_pairOf g1.1 g1.2.1 g1.2.2.1 hh.2.2.2.2.2.2 hh.2.2.1 hx.1 hP (fun s => ?_)
  refine pk_eq m 0 (fun z => ?_) (fun z => ?_)
  · rw [tl_lo (by omega)]
    have k := H fm fh fk fl ff fc ft a1 a2 a3 a4 a5 a6 a7 a8 a9 a10 a11 s a13 a14 a15 a16 a17 a18 a19 a20 a21 ⟨g1, g2, g3, hh⟩
    rw [if_pos z] at k
    exact k
  · rw [tl_hi (by omega)]
    have k := H fm fh fk fl ff fc ft a1 a2 a3 a4 a5 a6 a7 a8 a9 a10 a11 s a13 a14 a15 a16 a17 a18 a19 a20 a21 ⟨g1, g2, g3, hh⟩
    rw [if_neg z] at k
    exact k
end
/-! ===== runs ===== -/
theorem tl_ways110 {pst : Int32 → Prop} {J : Int32 → Int32 → Prop} {T : List (Nat × Nat × Nat × Nat)} {m k i : Nat} {x3 x4 x6 : Int32} {fm fh fk fl ff fc ft : Int32} {a1 a2 a3 a4 a5 a6 a7 a8 a9 a10 a11 a12 a13 a14 a15 a16 a17 a18 a19 a20 a21 : Nat → Int32} (hN : tl_Ns T a5 a6 a7 a8) (hT : T.length ≤ 12) (hk : k < T.length) (hm : m < 2) (hi : i < 16) (hJ : ∀ y, J y (nI (i + 1))) : wX_waysOf_110 pst J (nI m) (nI k) x3 x4 (nI i) x6 fm fh fk fl ff fc ft a1 a2 a3 a4 a5 a6 a7 a8 a9 a10 a11 a12 a13 a14 a15 a16 a17 a18 a19 a20 a21 := by
  have hn := hN k hk
  have l7 := hn.2.2.1.2
  have e7 : a7 (nI k).toNatClampNeg = nI (tl_nd T k).2.2.1 := (tl_at a7 k rfl (by omega)).trans hn.2.2.1.1
  have ex : (4 : Int32) * a7 (nI k).toNatClampNeg + (nI i >>> ((2 : Int32) &&& 31)) = nI (4 * (tl_nd T k).2.2.1 + i / 4) := by
    rw [e7, tl_shr2 (by omega)]
    exact tl_lin 4 _ _
  exact ⟨pk_in k 12 (by omega), br_c (fun _ => ⟨pk_in (16 * m + i) 32 (by omega) (tl_lin 16 m i), br_c (fun _ => ⟨pk_in k 12 (by omega), pk_in (4 * (tl_nd T k).2.2.1 + i / 4) 48 (by omega) ex, nm_e (nm_r (nI_1 i) (hJ _))⟩) (fun _ => nm_r (nI_1 i) (hJ _))⟩) (fun _ => nm_r (nI_1 i) (hJ _))⟩
theorem tl_ways36 {pst : Int32 → Prop} {T : List (Nat × Nat × Nat × Nat)} {m k : Nat} {x3 : Int32} {fm fh fk fl ff fc ft : Int32} {a1 a2 a3 a4 a5 a6 a7 a8 a9 a10 a11 a12 a13 a14 a15 a16 a17 a18 a19 a20 a21 : Nat → Int32} (hN : tl_Ns T a5 a6 a7 a8) (hT : T.length ≤ 12) (hk : k < T.length) (hm : m < 2) (H : ∀ r, pst r) : ∃ fu, wX_waysOf_36 pst (nI m) (nI k) x3 fm fh fk fl ff fc ft a1 a2 a3 a4 a5 a6 a7 a8 a9 a10 a11 a12 a13 a14 a15 a16 a17 a18 a19 a20 a21 fu 0 0 := by
  have hn := hN k hk
  have l6 := hn.2.1.2
  have e6 : a6 (nI k).toNatClampNeg = nI (tl_nd T k).2.1 := (tl_at a6 k rfl (by omega)).trans hn.2.1.1
  refine pk_loop (σ := Int32) (fun g i x => wX_waysOf_36 pst (nI m) (nI k) x3 fm fh fk fl ff fc ft a1 a2 a3 a4 a5 a6 a7 a8 a9 a10 a11 a12 a13 a14 a15 a16 a17 a18 a19 a20 a21 g x (nI i)) (fun _ _ => True) 16 0 0 (by omega) trivial
    (fun g x _ => pk_le 16 16 (fun _ => H x) (fun z => absurd z (by omega)))
    (fun g i x hi _ hw => pk_le 16 i (fun z => absurd z (by omega)) (fun _ => ?_))
  have ex : (4 : Int32) * a6 (nI k).toNatClampNeg + (nI i &&& 3) = nI (4 * (tl_nd T k).2.1 + i % 4) := by
    rw [e6, tl_and3 (by omega)]
    exact tl_lin 4 _ _
  have hJ : ∀ y, wX_waysOf_36 pst (nI m) (nI k) x3 fm fh fk fl ff fc ft a1 a2 a3 a4 a5 a6 a7 a8 a9 a10 a11 a12 a13 a14 a15 a16 a17 a18 a19 a20 a21 g y (nI (i + 1)) := fun y => hw y trivial
  refine ⟨pk_in k 12 (by omega), pk_in (4 * (tl_nd T k).2.1 + i % 4) 48 (by omega) ex, nm_e ⟨pk_in k 12 (by omega), ?_⟩⟩
  refine br_c (fun _ => pk_le 4 i (fun _ => tl_ways110 hN hT hk hm hi hJ) (fun z => ⟨pk_in (4 * m + i) 8 (by omega) (tl_lin 4 m i), br_c (fun _ => tl_ways110 hN hT hk hm hi hJ) (fun _ => tl_ways110 hN hT hk hm hi hJ)⟩)) (fun _ => tl_ways110 hN hT hk hm hi hJ)
theorem tl_waysOf {pst : Int32 → Prop} {l : Nat → Nat} {T : List (Nat × Nat × Nat × Nat)} {m k q : Nat} {pk pq : Int32} {fm fh fk fl ff fc ft : Int32} {a1 a2 a3 a4 a5 a6 a7 a8 a9 a10 a11 a12 a13 a14 a15 a16 a17 a18 a19 a20 a21 : Nat → Int32} (hl : tl_ok a1 l 4) (hN : tl_Ns T a5 a6 a7 a8) (hT : T.length ≤ 12) (hk : k < T.length) (hm : m < 2) (hq : q < 4) (hpk : pk = nI k) (hpq : pq = nI q)
    (H : ∀ r, ((tl_nd T k).1 < 2 → r = nI (l (2 * m + (tl_nd T k).1) / 2 ^ q % 2)) → pst r) : wpX_waysOf pst (fm, fh, fk, fl, ff, fc, ft, a1, a2, a3, a4, a5, a6, a7, a8, a9, a10, a11, a12, a13, a14, a15, a16, a17, a18, a19, a20, a21) (nI m) pk pq := by
  subst hpk hpq
  have hn := hN k hk
  have l5 := hn.1.2
  have e5 : a5 (nI k).toNatClampNeg = nI (tl_nd T k).1 := (tl_at a5 k rfl (by omega)).trans hn.1.1
  refine ⟨pk_in k 12 (by omega), pk_le 2 (tl_nd T k).1 (fun z => tl_ways36 hN hT hk hm (fun r => H r (fun z2 => absurd z2 (by omega)))) (fun z => ?_) rfl e5⟩
  have ex : (2 : Int32) * nI m + a5 (nI k).toNatClampNeg = nI (2 * m + (tl_nd T k).1) := by
    rw [e5]
    exact tl_lin 2 m _
  have hb := hl (2 * m + (tl_nd T k).1) (by omega)
  refine ⟨pk_in k 12 (by omega), pk_in (2 * m + (tl_nd T k).1) 4 (by omega) ex, ?_⟩
  rw [pk_cl (2 * m + (tl_nd T k).1) ex (by omega), hb.1, tl_bit (by omega) (by omega)]
  exact H _ (fun _ => rfl)
def tl_rs (fin : Nat) (w : Nat → Int32) (x : Nat) : Nat → Int32
  | 0 => 0
  | q + 1 => if fin / 2 ^ q % 2 = 1 then tl_rs fin w x q + w (4 * x + q) else tl_rs fin w x q
theorem tl_runs61 {post : Int32 → St2 → Prop} {f : Nat → Nat} {m x : Nat} {fm fh fk fl ff fc ft : Int32} {a1 a2 a3 a4 a5 a6 a7 a8 a9 a10 a11 a12 a13 a14 a15 a16 a17 a18 a19 a20 a21 : Nat → Int32} (hf : tl_ok a4 f 2) (hm : m < 2) (hx : x < 12) (H : post (tl_rs (f m) a13 x 4) (fm, fh, fk, fl, ff, fc, ft, a1, a2, a3, a4, a5, a6, a7, a8, a9, a10, a11, a12, a13, a14, a15, a16, a17, a18, a19, a20, a21)) : ∃ fu, wX_runs_61 post (nI m) (nI x) fm fh fk fl ff fc ft a1 a2 a3 a4 a5 a6 a7 a8 a9 a10 a11 a12 a13 a14 a15 a16 a17 a18 a19 a20 a21 fu 0 0 := by
  have hb := hf m hm
  have e4 : a4 (nI m).toNatClampNeg = nI (f m) := (tl_at a4 m rfl (by omega)).trans hb.1
  refine pk_loop (σ := Int32) (fun g q y => wX_runs_61 post (nI m) (nI x) fm fh fk fl ff fc ft a1 a2 a3 a4 a5 a6 a7 a8 a9 a10 a11 a12 a13 a14 a15 a16 a17 a18 a19 a20 a21 g y (nI q)) (fun q y => y = tl_rs (f m) a13 x q) 4 0 0 (by omega) rfl
    (fun g y h => pk_le 4 4 (fun _ => by rw [h]; exact H) (fun z => absurd z (by omega)))
    (fun g q y hq h hw => pk_le 4 q (fun z => absurd z (by omega)) (fun _ => ⟨pk_in m 2 hm, pk_eq (f m / 2 ^ q % 2) 1 (fun z => ?_) (fun z => ?_) (by rw [e4]; exact tl_bit (by omega) (by omega)) rfl (tl_lt2 _) (by omega)⟩))
  · refine ⟨pk_in (4 * x + q) 48 (by omega) (tl_lin 4 x q), nm_r (e' := tl_rs (f m) a13 x (q + 1)) ?_ (nm_r (nI_1 q) (hw _ rfl))⟩
    rw [pk_cl (4 * x + q) (tl_lin 4 x q) (by omega), h]
    exact (if_pos z).symm
  · refine nm_r (nI_1 q) (hw _ ?_)
    rw [h]
    exact (if_neg z).symm
section
variable {l o t f : Nat → Nat} {C : (Nat → Int32) → Prop} {T : List (Nat × Nat × Nat × Nat)} {st : List Nat} {post : Int32 → St2 → Prop} {pst : Int32 → Prop} {fm fh fk fl ff fc ft : Int32} {a1 a2 a3 a4 a5 a6 a7 a8 a9 a10 a11 a12 a13 a14 a15 a16 a17 a18 a19 a20 a21 : Nat → Int32}
theorem tl_runs_bad {p : Int32} (hp : p < 0 ∨ ¬ p ≤ 1) (H : post (-1) (fm, fh, fk, fl, ff, fc, ft, a1, a2, a3, a4, a5, a6, a7, a8, a9, a10, a11, a12, a13, a14, a15, a16, a17, a18, a19, a20, a21)) : wpX_runs post (fm, fh, fk, fl, ff, fc, ft, a1, a2, a3, a4, a5, a6, a7, a8, a9, a10, a11, a12, a13, a14, a15, a16, a17, a18, a19, a20, a21) p := by
  unfold wpX_runs
  dsimp only
  exact tl_bA_t hp (br_f tl_one_ne H)
theorem tl_runsE {m : Nat} (h : tl_I l o t f C T [] (fm, fh, fk, fl, ff, fc, ft, a1, a2, a3, a4, a5, a6, a7, a8, a9, a10, a11, a12, a13, a14, a15, a16, a17, a18, a19, a20, a21)) (hm : m < 2) (H : post (-4) (fm, fh, fk, fl, ff, fc, ft, a1, a2, a3, a4, a5, a6, a7, a8, a9, a10, a11, a12, a13, a14, a15, a16, a17, a18, a19, a20, a21)) : wpX_runs post (fm, fh, fk, fl, ff, fc, ft, a1, a2, a3, a4, a5, a6, a7, a8, a9, a10, a11, a12, a13, a14, a15, a16, a17, a18, a19, a20, a21) (nI m) := by
  unfold wpX_runs
  dsimp only
  exact tl_bA_f hm (br_t rfl (tl_topE h (br_f tl_m1n H)))
theorem tl_runs {m x : Nat} (h : tl_I l o t f C T (x :: st) (fm, fh, fk, fl, ff, fc, ft, a1, a2, a3, a4, a5, a6, a7, a8, a9, a10, a11, a12, a13, a14, a15, a16, a17, a18, a19, a20, a21)) (hm : m < 2)
    (H : ∀ (fm fh fk fl ff fc ft : Int32) (a1 a2 a3 a4 a5 a6 a7 a8 a9 a10 a11 a12 a13 a14 a15 a16 a17 a18 a19 a20 a21 : Nat → Int32), tl_I l o t f C T (x :: st) (fm, fh, fk, fl, ff, fc, ft, a1, a2, a3, a4, a5, a6, a7, a8, a9, a10, a11, a12, a13, a14, a15, a16, a17, a18, a19, a20, a21) → ((tl_nd T x).1 < 2 → ∀ q, q < 4 → a13 (4 * x + q) = nI (l (2 * m + (tl_nd T x).1) / 2 ^ q % 2)) → post (tl_rs (f m) a13 x 4) (fm, fh, fk, fl, ff, fc, ft, a1, a2, a3, a4, a5, a6, a7, a8, a9, a10, a11, a12, a13, a14, a15, a16, a17, a18, a19, a20, a21)) : wpX_runs post (fm, fh, fk, fl, ff, fc, ft, a1, a2, a3, a4, a5, a6, a7, a8, a9, a10, a11, a12, a13, a14, a15, a16, a17, a18, a19, a20, a21) (nI m) := by
  unfold wpX_runs
  dsimp only
  have hx := tl_top_lt h
  refine tl_bA_f hm (br_t rfl (tl_top h (br_t (nI_pos' (by omega)) ?_)))
  obtain ⟨g1, g2, g3, hh⟩ := h
  have hE : (4 : Int32) * (nI x + 1) = nI (4 * (x + 1)) := by
    rw [nI_1]
    exact tl_mulc 4 _
  refine pk_loop (σ := Nat → Int32) (fun g i s => wX_runs_24 post (nI m) (nI x) fm fh fk fl ff fc ft g (nI i) a1 a2 a3 a4 a5 a6 a7 a8 a9 a10 a11 a12 s a14 a15 a16 a17 a18 a19 a20 a21) (fun i s => ∀ j, j < i → (tl_nd T (j / 4)).1 < 2 → s j = nI (l (2 * m + (tl_nd T (j / 4)).1) / 2 ^ (j % 4) % 2)) (4 * (x + 1)) 0 a13 (by omega) (fun j hj => absurd hj (by omega))
    (fun g s hs => pk_le (4 * (x + 1)) (4 * (x + 1)) (fun _ => tl_runs61 g1.2.2.2 hm (by omega) (H fm fh fk fl ff fc ft a1 a2 a3 a4 a5 a6 a7 a8 a9 a10 a11 a12 s a14 a15 a16 a17 a18 a19 a20 a21 ⟨g1, g2, g3, hh⟩ (fun c q hq => ?_))) (fun z => absurd z (by omega)) hE)
    (fun g i s hi hs hw => pk_le (4 * (x + 1)) i (fun z => absurd z (by omega)) (fun _ => ?_) hE)
  · have k := hs (4 * x + q) (by omega)
    rw [show (4 * x + q) / 4 = x by omega, show (4 * x + q) % 4 = q by omega] at k
    exact k c
  · refine tl_waysOf (k := i / 4) (q := i % 4) g1.1 hh.2.2.2.2.2.2 hh.2.2.1 (by omega) hm (by omega) (tl_shr2 (by omega)) (tl_and3 (by omega)) (fun r hr => ⟨pk_in i 48 (by omega), nm_r (e' := upd s i r) (by rw [nI_clamp (by omega)]) (nm_r (nI_1 i) (hw _ (fun j hj c => ?_)))⟩)
    by_cases e : j = i
    · rw [e, pk_us]
      rw [e] at c
      exact hr c
    · rw [pk_un e]
      exact hs j (by omega) c
end
end
section
/-! ===== how many trees are of a kind ===== -/
def tl_sum (g : Nat → Bool) (r : Nat → Int32) : Nat → Int32
  | 0 => 0
  | q + 1 => if g q = true then tl_sum g r q + r q else tl_sum g r q
theorem tl_countOf {pst : Int32 → Prop} {f : Nat → Nat} {κ n : Nat} {fm fh fk fl ff fc ft : Int32} {a1 a2 a3 a4 a5 a6 a7 a8 a9 a10 a11 a12 a13 a14 a15 a16 a17 a18 a19 a20 a21 : Nat → Int32} (hf : tl_ok a4 f 2) (hκ : κ < 7) (hn : n ≤ 7) (H : pst (tl_sum (tl_is f κ) (fun q => a14 (256 * n + q)) 256)) : wpX_countOf pst (fm, fh, fk, fl, ff, fc, ft, a1, a2, a3, a4, a5, a6, a7, a8, a9, a10, a11, a12, a13, a14, a15, a16, a17, a18, a19, a20, a21) (nI κ) (nI n) := by
  refine pk_loop (σ := Int32) (fun g q y => wX_countOf_5 pst (nI κ) (nI n) fm fh fk fl ff fc ft a1 a2 a3 a4 a5 a6 a7 a8 a9 a10 a11 a12 a13 a14 a15 a16 a17 a18 a19 a20 a21 g y (nI q)) (fun q y => y = tl_sum (tl_is f κ) (fun q => a14 (256 * n + q)) q) 256 0 0 (by omega) rfl
    (fun g y h => pk_le 256 256 (fun _ => by rw [h]; exact H) (fun z => absurd z (by omega)))
    (fun g q y hq h hw => pk_le 256 q (fun z => absurd z (by omega)) (fun _ => tl_isOf hf hκ hq ?_))
  cases hb : tl_is f κ q with
  | false =>
    refine br_t rfl (nm_r (nI_1 q) (hw _ ?_))
    rw [h]
    exact (if_neg (by rw [hb]; decide)).symm
  | true =>
    refine br_f tl_one_ne ⟨pk_in (256 * n + q) 2048 (by omega) (tl_lin 256 n q), nm_r (e' := tl_sum (tl_is f κ) (fun q => a14 (256 * n + q)) (q + 1)) ?_ (nm_r (nI_1 q) (hw _ rfl))⟩
    rw [pk_cl (256 * n + q) (tl_lin 256 n q) (by omega), h]
    exact (if_pos hb).symm
theorem tl_sumE {g : Nat → Bool} {r : Nat → Int32} {x : Nat} (h : ∀ q, q < 256 → r q = nI (if q = 0 then x else 0)) : ∀ e, e < 256 → tl_sum g r (e + 1) = nI (if g 0 = true then x else 0)
  | 0, _ => by
    show (if g 0 = true then 0 + r 0 else 0) = _
    rw [h 0 (by omega), if_pos rfl]
    split
    · exact (nI_add 0 x).trans (congrArg nI (Nat.zero_add x))
    · rfl
  | e + 1, he => by
    show (if g (e + 1) = true then tl_sum g r (e + 1) + r (e + 1) else tl_sum g r (e + 1)) = _
    rw [h (e + 1) he, if_neg (show ¬ e + 1 = 0 by omega), tl_sumE h e (by omega), nI_add, Nat.add_zero]
    split <;> rfl
theorem tl_ioz : ∀ κ, κ < 7 → tl_io κ false false = decide (4 < κ) := by decide
theorem tl_isz {κ q : Nat} (h : κ < 7) : tl_is tl_z κ q = decide (4 < κ) := by
  have e0 : decide ((q % 16) &&& tl_z 0 ≠ 0) = false := decide_eq_false (fun c => c (Nat.and_zero _))
  have e1 : decide ((q / 16) &&& tl_z 1 ≠ 0) = false := decide_eq_false (fun c => c (Nat.and_zero _))
  unfold tl_is
  rw [e0, e1]
  exact tl_ioz κ h
theorem tl_countOfE {pst : Int32 → Prop} {κ n : Nat} {fm fh fk fl ff fc ft : Int32} {a1 a2 a3 a4 a5 a6 a7 a8 a9 a10 a11 a12 a13 a14 a15 a16 a17 a18 a19 a20 a21 : Nat → Int32} (hf : tl_ok a4 tl_z 2) (hC : tl_CE a14) (hκ : κ < 7) (hn : n ≤ 7) (H : pst (nI (if 4 < κ then tl_tt n else 0))) : wpX_countOf pst (fm, fh, fk, fl, ff, fc, ft, a1, a2, a3, a4, a5, a6, a7, a8, a9, a10, a11, a12, a13, a14, a15, a16, a17, a18, a19, a20, a21) (nI κ) (nI n) := by
  refine tl_countOf hf hκ hn ?_
  rw [tl_sumE (x := tl_tt n) (fun q hq => hC n hn q hq) 255 (by omega), tl_isz hκ]
  rw [show (if 4 < κ then tl_tt n else 0) = (if decide (4 < κ) = true then tl_tt n else 0) by by_cases e : 4 < κ <;> simp [e]] at H
  exact H
def tl_ct (g : Nat → Bool) (x e : Nat) : Nat := if x < e ∧ g x = true then 1 else 0
theorem tl_ct_t {g : Nat → Bool} {x e : Nat} (h : g e = true) : tl_ct g x (e + 1) = tl_ct g x e + (if e = x then 1 else 0) := by
  unfold tl_ct
  by_cases c : e = x
  · rw [if_pos c, if_pos ⟨by omega, by rw [← c]; exact h⟩, if_neg (fun z => absurd z.1 (by omega))]
  · rw [if_neg c, Nat.add_zero]
    by_cases d : x < e ∧ g x = true
    · rw [if_pos d, if_pos ⟨by omega, d.2⟩]
    · rw [if_neg d, if_neg (fun z => d ⟨by omega, z.2⟩)]
theorem tl_ct_f {g : Nat → Bool} {x e : Nat} (h : ¬ g e = true) : tl_ct g x (e + 1) = tl_ct g x e := by
  unfold tl_ct
  by_cases d : x < e ∧ g x = true
  · rw [if_pos d, if_pos ⟨by omega, d.2⟩]
  · rw [if_neg d]
    refine if_neg (fun z => ?_)
    by_cases c : e = x
    · exact h (by rw [c]; exact z.2)
    · exact d ⟨by omega, z.2⟩
theorem tl_sum1 {g : Nat → Bool} {r : Nat → Int32} {l : Nat → Nat} (h : ∀ q, q < 256 → r q = nI (tl_r1 l q)) : ∀ e, e ≤ 256 → tl_sum g r e = nI (tl_ct g (tl_LP l 0) e + tl_ct g (tl_LP l 1) e)
  | 0, _ => by
    have c : ∀ x, tl_ct g x 0 = 0 := fun x => if_neg (fun z => absurd z.1 (Nat.not_lt_zero x))
    rw [c, c]
    rfl
  | e + 1, he => by
    show (if g e = true then tl_sum g r e + r e else tl_sum g r e) = _
    rw [h e (by omega), tl_sum1 h e (by omega)]
    by_cases c : g e = true
    · rw [if_pos c, tl_ct_t c, tl_ct_t c, nI_add]
      congr 1
      show tl_ct g (tl_LP l 0) e + tl_ct g (tl_LP l 1) e + ((if e = tl_LP l 0 then 1 else 0) + (if e = tl_LP l 1 then 1 else 0)) = _
      omega
    · rw [if_neg c, tl_ct_f c, tl_ct_f c]
def tl_n1 (g : Nat → Bool) (l : Nat → Nat) : Nat := (if g (tl_LP l 0) = true then 1 else 0) + (if g (tl_LP l 1) = true then 1 else 0)
theorem tl_countOf1 {pst : Int32 → Prop} {f l : Nat → Nat} {κ : Nat} {fm fh fk fl ff fc ft : Int32} {a1 a2 a3 a4 a5 a6 a7 a8 a9 a10 a11 a12 a13 a14 a15 a16 a17 a18 a19 a20 a21 : Nat → Int32} (hf : tl_ok a4 f 2) (hl : ∀ j, j < 4 → l j < 16) (hC : tl_C1 l a14) (hκ : κ < 7) (H : pst (nI (tl_n1 (tl_is f κ) l))) : wpX_countOf pst (fm, fh, fk, fl, ff, fc, ft, a1, a2, a3, a4, a5, a6, a7, a8, a9, a10, a11, a12, a13, a14, a15, a16, a17, a18, a19, a20, a21) (nI κ) 1 := by
  refine tl_countOf (n := 1) hf hκ (by omega) ?_
  rw [tl_sum1 (l := l) (fun q hq => hC q hq) 256 (by omega)]
  have c : ∀ x, x < 256 → tl_ct (tl_is f κ) x 256 = if tl_is f κ x = true then 1 else 0 := by
    intro x hx
    unfold tl_ct
    by_cases d : tl_is f κ x = true
    · rw [if_pos d, if_pos ⟨hx, d⟩]
    · rw [if_neg d, if_neg (fun z => d z.2)]
  rw [c _ (tl_LP_lt hl (by omega)), c _ (tl_LP_lt hl (by omega))]
  exact H
theorem tl_bK_f {pst : Int32 → Prop} {κ : Nat} {u : St2} (h : κ < 7) (H : pst 0) : wpX_badKind pst u (nI κ) :=
  br_f (nI_pos (by omega)) (br_t (nI_le (b := 6) (by omega) (by omega)) H)
theorem tl_bK_t {pst : Int32 → Prop} {p : Int32} {u : St2} (h : p < 0 ∨ ¬ p ≤ 6) (H : pst 1) : wpX_badKind pst u p := by
  rcases h with z | z
  · exact br_t z H
  · exact br_c (fun _ => H) (fun _ => br_f z H)
theorem tl_bK {pst : Int32 → Prop} {p : Int32} {u : St2} (H0 : pst 0) (H1 : pst 1) : wpX_badKind pst u p :=
  br_c (fun _ => H1) (fun _ => br_c (fun _ => H0) (fun _ => H1))
section
variable {l o t f : Nat → Nat} {T : List (Nat × Nat × Nat × Nat)} {st : List Nat} {post : Int32 → St2 → Prop} {pst : Int32 → Prop} {fm fh fk fl ff fc ft : Int32} {a1 a2 a3 a4 a5 a6 a7 a8 a9 a10 a11 a12 a13 a14 a15 a16 a17 a18 a19 a20 a21 : Nat → Int32}
theorem tl_count_bad {p n : Int32} (hb : (p < 0 ∨ ¬ p ≤ 6) ∨ (n < 1 ∨ ¬ n ≤ 7)) (H : post (-1) (fm, fh, fk, fl, ff, fc, ft, a1, a2, a3, a4, a5, a6, a7, a8, a9, a10, a11, a12, a13, a14, a15, a16, a17, a18, a19, a20, a21)) : wpX_count post (fm, fh, fk, fl, ff, fc, ft, a1, a2, a3, a4, a5, a6, a7, a8, a9, a10, a11, a12, a13, a14, a15, a16, a17, a18, a19, a20, a21) p n := by
  unfold wpX_count
  dsimp only
  rcases hb with z | z | z
  · exact tl_bK_t z (br_f tl_one_ne H)
  · exact tl_bK (br_t rfl (br_t z H)) (br_f tl_one_ne H)
  · exact tl_bK (br_t rfl (br_c (fun _ => H) (fun _ => br_f z H))) (br_f tl_one_ne H)
theorem tl_countE {κ n : Nat} (h : tl_I tl_z tl_z tl_z tl_z tl_CE T st (fm, fh, fk, fl, ff, fc, ft, a1, a2, a3, a4, a5, a6, a7, a8, a9, a10, a11, a12, a13, a14, a15, a16, a17, a18, a19, a20, a21)) (hκ : κ < 7) (hn1 : 1 ≤ n) (hn : n ≤ 7) (H : ∀ (fm fh fk fl ff fc ft : Int32) (a1 a2 a3 a4 a5 a6 a7 a8 a9 a10 a11 a12 a13 a14 a15 a16 a17 a18 a19 a20 a21 : Nat → Int32), tl_I tl_z tl_z tl_z tl_z tl_CE T st (fm, fh, fk, fl, ff, fc, ft, a1, a2, a3, a4, a5, a6, a7, a8, a9, a10, a11, a12, a13, a14, a15, a16, a17, a18, a19, a20, a21) → post (nI (if 4 < κ then tl_tt n else 0)) (fm, fh, fk, fl, ff, fc, ft, a1, a2, a3, a4, a5, a6, a7, a8, a9, a10, a11, a12, a13, a14, a15, a16, a17, a18, a19, a20, a21)) : wpX_count post (fm, fh, fk, fl, ff, fc, ft, a1, a2, a3, a4, a5, a6, a7, a8, a9, a10, a11, a12, a13, a14, a15, a16, a17, a18, a19, a20, a21) (nI κ) (nI n) := by
  unfold wpX_count
  dsimp only
  obtain ⟨g1, g2, g3, hh⟩ := h
  refine tl_bK_f hκ (br_t rfl (br_f (nI_nlt (b := 1) hn1 (by omega)) (br_t (nI_le (b := 7) hn (by omega)) ?_)))
  refine tl_findC g1.1 g1.2.1 g1.2.2.1 g2 (fun s hs => tl_CE_find hs) (fun fk a14 hC => ?_)
  exact tl_countOfE g1.2.2.2 hC hκ hn (H _ _ _ _ _ _ _ _ _ _ _ _ _ _ _ _ _ _ _ _ _ _ _ _ _ _ _ _ ⟨g1, fun _ => hC, g3, hh⟩)
theorem tl_count1 {κ : Nat} (h : tl_I l o t f (tl_C1 l) T st (fm, fh, fk, fl, ff, fc, ft, a1, a2, a3, a4, a5, a6, a7, a8, a9, a10, a11, a12, a13, a14, a15, a16, a17, a18, a19, a20, a21)) (hκ : κ < 7) (H : ∀ (fm fh fk fl ff fc ft : Int32) (a1 a2 a3 a4 a5 a6 a7 a8 a9 a10 a11 a12 a13 a14 a15 a16 a17 a18 a19 a20 a21 : Nat → Int32), tl_I l o t f (tl_C1 l) T st (fm, fh, fk, fl, ff, fc, ft, a1, a2, a3, a4, a5, a6, a7, a8, a9, a10, a11, a12, a13, a14, a15, a16, a17, a18, a19, a20, a21) → post (nI (tl_n1 (tl_is f κ) l)) (fm, fh, fk, fl, ff, fc, ft, a1, a2, a3, a4, a5, a6, a7, a8, a9, a10, a11, a12, a13, a14, a15, a16, a17, a18, a19, a20, a21)) : wpX_count post (fm, fh, fk, fl, ff, fc, ft, a1, a2, a3, a4, a5, a6, a7, a8, a9, a10, a11, a12, a13, a14, a15, a16, a17, a18, a19, a20, a21) (nI κ) 1 := by
  unfold wpX_count
  dsimp only
  obtain ⟨g1, g2, g3, hh⟩ := h
  refine tl_bK_f hκ (br_t rfl (br_f (by decide) (br_t (by decide) ?_)))
  refine tl_findC g1.1 g1.2.1 g1.2.2.1 g2 (fun s hs => tl_C1_find (tl_ok_lt g1.1) hs) (fun fk a14 hC => ?_)
  exact tl_countOf1 g1.2.2.2 (tl_ok_lt g1.1) hC hκ (H _ _ _ _ _ _ _ _ _ _ _ _ _ _ _ _ _ _ _ _ _ _ _ _ _ _ _ _ ⟨g1, fun _ => hC, g3, hh⟩)
theorem tl_least_bad {p : Int32} (hb : p < 0 ∨ ¬ p ≤ 6) (H : post (-1) (fm, fh, fk, fl, ff, fc, ft, a1, a2, a3, a4, a5, a6, a7, a8, a9, a10, a11, a12, a13, a14, a15, a16, a17, a18, a19, a20, a21)) : wpX_least post (fm, fh, fk, fl, ff, fc, ft, a1, a2, a3, a4, a5, a6, a7, a8, a9, a10, a11, a12, a13, a14, a15, a16, a17, a18, a19, a20, a21) p := by
  unfold wpX_least
  dsimp only
  exact tl_bK_t hb (br_f tl_one_ne H)
theorem tl_least {κ : Nat} (h : tl_I tl_z tl_z tl_z tl_z tl_CE T st (fm, fh, fk, fl, ff, fc, ft, a1, a2, a3, a4, a5, a6, a7, a8, a9, a10, a11, a12, a13, a14, a15, a16, a17, a18, a19, a20, a21)) (hκ : κ < 7) (H : ∀ (fm fh fk fl ff fc ft : Int32) (a1 a2 a3 a4 a5 a6 a7 a8 a9 a10 a11 a12 a13 a14 a15 a16 a17 a18 a19 a20 a21 : Nat → Int32), tl_I tl_z tl_z tl_z tl_z tl_CE T st (fm, fh, fk, fl, ff, fc, ft, a1, a2, a3, a4, a5, a6, a7, a8, a9, a10, a11, a12, a13, a14, a15, a16, a17, a18, a19, a20, a21) → post (if 4 < κ then 1 else -4) (fm, fh, fk, fl, ff, fc, ft, a1, a2, a3, a4, a5, a6, a7, a8, a9, a10, a11, a12, a13, a14, a15, a16, a17, a18, a19, a20, a21)) : wpX_least post (fm, fh, fk, fl, ff, fc, ft, a1, a2, a3, a4, a5, a6, a7, a8, a9, a10, a11, a12, a13, a14, a15, a16, a17, a18, a19, a20, a21) (nI κ) := by
  unfold wpX_least
  dsimp only
  obtain ⟨g1, g2, g3, hh⟩ := h
  refine tl_bK_f hκ (br_t rfl ?_)
  refine tl_findC g1.1 g1.2.1 g1.2.2.1 g2 (fun s hs => tl_CE_find hs) (fun fk a14 hC => ?_)
  have K := H fm fh fk fl ff fc ft a1 a2 a3 a4 a5 a6 a7 a8 a9 a10 a11 a12 a13 a14 a15 a16 a17 a18 a19 a20 a21 ⟨g1, fun _ => hC, g3, hh⟩
  refine tl_countOfE (n := 1) g1.2.2.2 hC hκ (by omega) ?_
  by_cases e : 4 < κ
  · rw [if_pos e] at K
    rw [if_pos e]
    exact ⟨1, br_f (by decide) (br_f (by decide) K)⟩
  · rw [if_neg e] at K
    rw [if_neg e]
    refine pk_loop (σ := Unit) (fun g n _ => wX_least_23 post (nI κ) fm fh fk fl ff fc ft a1 a2 a3 a4 a5 a6 a7 a8 a9 a10 a11 a12 a13 a14 a15 a16 a17 a18 a19 a20 a21 g (nI n) (nI 0)) (fun n _ => 1 ≤ n) 7 1 () (by omega) (by omega)
      (fun g _ _ => br_t rfl (pk_le 7 7 (fun _ => br_t tl_le0 K) (fun z => absurd z (by omega))))
      (fun g n _ hn h1 hw => br_t rfl (pk_le 7 n (fun z => absurd z (by omega)) (fun _ => nm_r (nI_1 n) (tl_countOfE g1.2.2.2 hC hκ (by omega) ?_))))
    rw [if_neg e]
    exact hw () (by omega)
end
end
section
/-! ===== finding a tree without rules: the parts ===== -/
section
variable {pst : Int32 → Prop} {post : St2 → Prop} {lv w sz i : Nat} {fm fh fk fl ff fc ft : Int32} {a1 a2 a3 a4 a5 a6 a7 a8 a9 a10 a11 a12 a13 a14 a15 a16 a17 a18 a19 a20 a21 : Nat → Int32}
theorem tl_start (hfl : fl + 1 = nI lv) (hlv : lv < 8) (hs : sz < 128) (H : post (fm, fh, fk, nI lv, ff, fc, ft, a1, a2, a3, a4, a5, a6, a7, a8, a9, a10, a11, a12, a13, a14, a15, a16, upd a17 lv (nI sz), upd a18 lv (nI 0), a19, a20, a21)) : wpX_start post (fm, fh, fk, fl, ff, fc, ft, a1, a2, a3, a4, a5, a6, a7, a8, a9, a10, a11, a12, a13, a14, a15, a16, a17, a18, a19, a20, a21) (nI sz) := by
  unfold wpX_start
  dsimp only
  refine nm_r hfl ⟨pk_in lv 8 hlv, nm_r (e' := upd a17 lv (nI sz)) (by rw [nI_clamp (by omega), tl_b8 _ hs]) ⟨pk_in lv 8 hlv, nm_r (e' := upd a18 lv (nI 0)) (by rw [nI_clamp (by omega)]; rfl) H⟩⟩
theorem tl_spell {x n : Nat} (hft : ft = nI n) (hn : n < 12) (hx : x < 128) (H : post (fm, fh, fk, fl, ff, fc, nI (n + 1), a1, a2, a3, a4, a5, a6, a7, a8, a9, a10, a11, a12, a13, a14, a15, a16, a17, a18, a19, a20, upd a21 n (nI x))) : wpX_spell post (fm, fh, fk, fl, ff, fc, ft, a1, a2, a3, a4, a5, a6, a7, a8, a9, a10, a11, a12, a13, a14, a15, a16, a17, a18, a19, a20, a21) (nI x) := by
  refine ⟨pk_in n 12 hn hft, nm_r (e' := upd a21 n (nI x)) (by rw [pk_cl n hft (by omega), tl_b8 _ hx]) (nm_r (e' := nI (n + 1)) (by rw [hft, nI_1]) H)⟩
theorem tl_lv0 (hfl : fl = nI lv) : (256 : Int32) * fl + 0 = nI (256 * lv) := by
  rw [hfl]
  exact tl_lin 256 lv 0
theorem tl_lvq {q : Nat} (hfl : fl = nI lv) : (256 : Int32) * (fl + 1) + nI q = nI (256 * (lv + 1) + q) := by
  rw [hfl, nI_1]
  exact tl_lin 256 _ _
theorem tl_withOne (ho : ∀ j, j < 8 → a2 j = 0) (hC : tl_CE a14) (hfl : fl = nI lv) (hlv : lv < 8) (hw : a16 (256 * lv) = nI w) (hs : 2 ≤ sz) (hs7 : sz ≤ 7) (H : pst (nI (tl_tt (sz - 1) * w))) : wpX_withOne pst (fm, fh, fk, fl, ff, fc, ft, a1, a2, a3, a4, a5, a6, a7, a8, a9, a10, a11, a12, a13, a14, a15, a16, a17, a18, a19, a20, a21) (nI sz) := by
  have tp := tl_ttpos (sz - 1) (by omega) (by omega)
  refine pk_loop (σ := Int32) (fun g q y => wX_withOne_4 pst (nI sz) fm fh fk fl ff fc ft a1 a2 a3 a4 a5 a6 a7 a8 a9 a10 a11 a12 a13 a14 a15 a16 a17 a18 a19 a20 a21 g y (nI q)) (fun q y => y = nI (if q = 0 then 0 else tl_tt (sz - 1) * w)) 256 0 0 (by omega) rfl
    (fun g y h => pk_le 256 256 (fun _ => by rw [h]; exact H) (fun z => absurd z (by omega)))
    (fun g q y hq h hw' => pk_le 256 q (fun z => absurd z (by omega)) (fun _ => ⟨pk_in (256 * (sz - 1) + q) 2048 (by omega) (tl_ix1 (by omega)), nm_r ((tl_at a14 _ (tl_ix1 (by omega)) (by omega)).trans (hC (sz - 1) (by omega) q hq)) ?_⟩))
  by_cases e : q = 0
  · rw [if_pos e] at h ⊢
    refine br_f (nI_nle tp.1 (by omega)) (tl_onePair0 ho ⟨pk_in (256 * lv) 2048 (by omega) (tl_lv0 hfl), nm_r (e' := nI (tl_tt (sz - 1) * w)) ?_ (nm_r (nI_1 q) (hw' _ (by rw [if_neg (by omega)])))⟩)
    rw [pk_cl (256 * lv) (tl_lv0 hfl) (by omega), hw, h, pk_mul, nI_add, Nat.zero_add]
  · rw [if_neg e] at h ⊢
    exact br_t tl_le0 (nm_r (nI_1 q) (hw' _ (by rw [if_neg (by omega)]; exact h)))
theorem tl_besides {x1 : Int32} (ht : ∀ j, j < 32 → a3 j = 0) (hC : tl_CE a14) (hfl : fl = nI lv) (hlv : lv < 8) (hw : a16 (256 * lv) = nI w) (hs : 1 ≤ sz) (hs7 : sz ≤ 7) (H : pst (nI (tl_tt sz * w))) : wpX_besides pst (fm, fh, fk, fl, ff, fc, ft, a1, a2, a3, a4, a5, a6, a7, a8, a9, a10, a11, a12, a13, a14, a15, a16, a17, a18, a19, a20, a21) x1 (nI sz) := by
  have tp := tl_ttpos sz (by omega) (by omega)
  refine pk_loop (σ := Int32) (fun g q y => wX_besides_5 pst x1 (nI sz) fm fh fk fl ff fc ft a1 a2 a3 a4 a5 a6 a7 a8 a9 a10 a11 a12 a13 a14 a15 a16 a17 a18 a19 a20 a21 g y (nI q)) (fun q y => y = nI (if q = 0 then 0 else tl_tt sz * w)) 256 0 0 (by omega) rfl
    (fun g y h => pk_le 256 256 (fun _ => by rw [h]; exact H) (fun z => absurd z (by omega)))
    (fun g q y hq h hw' => pk_le 256 q (fun z => absurd z (by omega)) (fun _ => ⟨pk_in (256 * sz + q) 2048 (by omega) (tl_lin 256 sz q), nm_r ((tl_at a14 _ (tl_lin 256 sz q) (by omega)).trans (hC sz (by omega) q hq)) ?_⟩))
  by_cases e : q = 0
  · rw [if_pos e] at h ⊢
    refine br_f (nI_nle tp.1 (by omega)) (tl_twoPair0 ht ⟨pk_in (256 * lv) 2048 (by omega) (tl_lv0 hfl), nm_r (e' := nI (tl_tt sz * w)) ?_ (nm_r (nI_1 q) (hw' _ (by rw [if_neg (by omega)])))⟩)
    rw [pk_cl (256 * lv) (tl_lv0 hfl) (by omega), hw, h, pk_mul, nI_add, Nat.zero_add]
  · rw [if_neg e] at h ⊢
    exact br_t tl_le0 (nm_r (nI_1 q) (hw' _ (by rw [if_neg (by omega)]; exact h)))
theorem tl_withTwo (ht : ∀ j, j < 32 → a3 j = 0) (hC : tl_CE a14) (hfl : fl = nI lv) (hlv : lv < 8) (hw : a16 (256 * lv) = nI w) (hi : 1 ≤ i) (hs : i + 2 ≤ sz) (hs7 : sz ≤ 7) (H : pst (nI (tl_tt i * (tl_tt (sz - 1 - i) * w)))) : wpX_withTwo pst (fm, fh, fk, fl, ff, fc, ft, a1, a2, a3, a4, a5, a6, a7, a8, a9, a10, a11, a12, a13, a14, a15, a16, a17, a18, a19, a20, a21) (nI sz) (nI i) := by
  have tp := tl_ttpos i (by omega) (by omega)
  refine pk_loop (σ := Int32) (fun g q y => wX_withTwo_5 pst (nI sz) (nI i) fm fh fk fl ff fc ft a1 a2 a3 a4 a5 a6 a7 a8 a9 a10 a11 a12 a13 a14 a15 a16 a17 a18 a19 a20 a21 g y (nI q)) (fun q y => y = nI (if q = 0 then 0 else tl_tt i * (tl_tt (sz - 1 - i) * w))) 256 0 0 (by omega) rfl
    (fun g y h => pk_le 256 256 (fun _ => by rw [h]; exact H) (fun z => absurd z (by omega)))
    (fun g q y hq h hw' => pk_le 256 q (fun z => absurd z (by omega)) (fun _ => ⟨pk_in (256 * i + q) 2048 (by omega) (tl_lin 256 i q), nm_r ((tl_at a14 _ (tl_lin 256 i q) (by omega)).trans (hC i (by omega) q hq)) ?_⟩))
  by_cases e : q = 0
  · rw [if_pos e] at h ⊢
    refine br_f (nI_nle tp.1 (by omega)) ?_
    rw [tl_sub2 (show i + 1 ≤ sz by omega)]
    refine tl_besides ht hC hfl hlv hw (by omega) (by omega) (nm_r (e' := nI (tl_tt i * (tl_tt (sz - 1 - i) * w))) ?_ (nm_r (nI_1 q) (hw' _ (by rw [if_neg (by omega)]))))
    rw [h, pk_mul, nI_add, Nat.zero_add]
  · rw [if_neg e] at h ⊢
    exact br_t tl_le0 (nm_r (nI_1 q) (hw' _ (by rw [if_neg (by omega)]; exact h)))
/-- a row of weights is filled: what is below stays -/
def tl_Wt (a b : Nat → Int32) (lv w q : Nat) : Prop := (∀ j, j < 256 * (lv + 1) → b j = a j) ∧ (0 < q → b (256 * (lv + 1)) = nI w)
theorem tl_Wt_0 {a b : Nat → Int32} {q : Nat} {v : Int32} (h : tl_Wt a b lv w q) (hv : q = 0 → v = nI w) : tl_Wt a (upd b (256 * (lv + 1) + q) v) lv w (q + 1) := by
  refine ⟨fun j hj => ?_, fun _ => ?_⟩
  · rw [pk_un (by omega)]
    exact h.1 j hj
  · by_cases e : q = 0
    · rw [e, Nat.add_zero, pk_us]
      exact hv e
    · rw [pk_un (by omega)]
      exact h.2 (by omega)
theorem tl_goToOnly (ho : ∀ j, j < 8 → a2 j = 0) (hC : tl_CE a14) (hfl : fl = nI lv) (hlv : lv < 7) (hw : a16 (256 * lv) = nI w) (hs : 1 ≤ sz) (hs7 : sz ≤ 7)
    (H : ∀ b : Nat → Int32, tl_Wt a16 b lv w 256 → post (fm, fh, fk, nI (lv + 1), ff, fc, ft, a1, a2, a3, a4, a5, a6, a7, a8, a9, a10, a11, a12, a13, a14, a15, b, upd a17 (lv + 1) (nI sz), upd a18 (lv + 1) (nI 0), a19, a20, a21)) : wpX_goToOnly post (fm, fh, fk, fl, ff, fc, ft, a1, a2, a3, a4, a5, a6, a7, a8, a9, a10, a11, a12, a13, a14, a15, a16, a17, a18, a19, a20, a21) (nI sz) := by
  have tp := tl_ttpos sz (by omega) (by omega)
  refine pk_loop (σ := Nat → Int32) (fun g q s => wX_goToOnly_2 post (nI sz) fm fh fk fl ff fc ft g (nI q) a1 a2 a3 a4 a5 a6 a7 a8 a9 a10 a11 a12 a13 a14 a15 s a17 a18 a19 a20 a21) (fun q s => tl_Wt a16 s lv w q) 256 0 a16 (by omega) ⟨fun _ _ => rfl, fun z => absurd z (by omega)⟩
    (fun g s h => pk_le 256 256 (fun _ => tl_start (lv := lv + 1) (by rw [hfl, nI_1]) (by omega) (by omega) (H s h)) (fun z => absurd z (by omega)))
    (fun g q s hq h hw' => pk_le 256 q (fun z => absurd z (by omega)) (fun _ => ⟨pk_in (256 * sz + q) 2048 (by omega) (tl_lin 256 sz q), ?_⟩))
  rw [(tl_at a14 _ (tl_lin 256 sz q) (by omega)).trans (hC sz (by omega) q hq)]
  by_cases e : q = 0
  · rw [if_pos e]
    refine br_f (nI_nle tp.1 (by omega)) (br_f tl_one_ne (tl_onePair0 ho (br_f tl_one_ne ⟨pk_in (256 * lv) 2048 (by omega) (tl_lv0 hfl), pk_in (256 * (lv + 1) + q) 2048 (by omega) (tl_lvq hfl), nm_r (e' := upd s (256 * (lv + 1) + q) (nI w)) ?_ (nm_r (nI_1 q) (hw' _ (tl_Wt_0 h (fun _ => rfl))))⟩)))
    rw [pk_cl (256 * lv) (tl_lv0 hfl) (by omega), pk_cl (256 * (lv + 1) + q) (tl_lvq hfl) (by omega), h.1 _ (by omega), hw]
  · rw [if_neg e]
    refine br_t tl_le0 (br_t rfl (br_t rfl ⟨pk_in (256 * (lv + 1) + q) 2048 (by omega) (tl_lvq hfl), nm_r (e' := upd s (256 * (lv + 1) + q) 0) ?_ (nm_r (nI_1 q) (hw' _ (tl_Wt_0 h (fun z => absurd z e))))⟩))
    rw [pk_cl (256 * (lv + 1) + q) (tl_lvq hfl) (by omega)]
theorem tl_goToSecond {x1 : Int32} (ht : ∀ j, j < 32 → a3 j = 0) (hC : tl_CE a14) (hfl : fl = nI lv) (hlv : lv < 7) (hw : a16 (256 * lv) = nI w) (hs : 1 ≤ sz) (hs7 : sz ≤ 7)
    (H : ∀ b : Nat → Int32, tl_Wt a16 b lv w 256 → post (fm, fh, fk, nI (lv + 1), ff, fc, ft, a1, a2, a3, a4, a5, a6, a7, a8, a9, a10, a11, a12, a13, a14, a15, b, upd a17 (lv + 1) (nI sz), upd a18 (lv + 1) (nI 0), a19, a20, a21)) : wpX_goToSecond post (fm, fh, fk, fl, ff, fc, ft, a1, a2, a3, a4, a5, a6, a7, a8, a9, a10, a11, a12, a13, a14, a15, a16, a17, a18, a19, a20, a21) x1 (nI sz) := by
  have tp := tl_ttpos sz (by omega) (by omega)
  refine pk_loop (σ := Nat → Int32) (fun g q s => wX_goToSecond_2 post x1 (nI sz) fm fh fk fl ff fc ft g (nI q) a1 a2 a3 a4 a5 a6 a7 a8 a9 a10 a11 a12 a13 a14 a15 s a17 a18 a19 a20 a21) (fun q s => tl_Wt a16 s lv w q) 256 0 a16 (by omega) ⟨fun _ _ => rfl, fun z => absurd z (by omega)⟩
    (fun g s h => pk_le 256 256 (fun _ => tl_start (lv := lv + 1) (by rw [hfl, nI_1]) (by omega) (by omega) (H s h)) (fun z => absurd z (by omega)))
    (fun g q s hq h hw' => pk_le 256 q (fun z => absurd z (by omega)) (fun _ => ⟨pk_in (256 * sz + q) 2048 (by omega) (tl_lin 256 sz q), ?_⟩))
  rw [(tl_at a14 _ (tl_lin 256 sz q) (by omega)).trans (hC sz (by omega) q hq)]
  by_cases e : q = 0
  · rw [if_pos e]
    refine br_f (nI_nle tp.1 (by omega)) (br_f tl_one_ne (tl_twoPair0 ht (br_f tl_one_ne ⟨pk_in (256 * lv) 2048 (by omega) (tl_lv0 hfl), pk_in (256 * (lv + 1) + q) 2048 (by omega) (tl_lvq hfl), nm_r (e' := upd s (256 * (lv + 1) + q) (nI w)) ?_ (nm_r (nI_1 q) (hw' _ (tl_Wt_0 h (fun _ => rfl))))⟩)))
    rw [pk_cl (256 * lv) (tl_lv0 hfl) (by omega), pk_cl (256 * (lv + 1) + q) (tl_lvq hfl) (by omega), h.1 _ (by omega), hw]
  · rw [if_neg e]
    refine br_t tl_le0 (br_t rfl (br_t rfl ⟨pk_in (256 * (lv + 1) + q) 2048 (by omega) (tl_lvq hfl), nm_r (e' := upd s (256 * (lv + 1) + q) 0) ?_ (nm_r (nI_1 q) (hw' _ (tl_Wt_0 h (fun z => absurd z e))))⟩))
    rw [pk_cl (256 * (lv + 1) + q) (tl_lvq hfl) (by omega)]
theorem tl_goToFirst {rs : Nat} (ht : ∀ j, j < 32 → a3 j = 0) (hC : tl_CE a14) (hfl : fl = nI lv) (hlv : lv < 7) (hw : a16 (256 * lv) = nI w) (hs : 1 ≤ sz) (hs7 : sz ≤ 7) (hr : 1 ≤ rs) (hr7 : rs ≤ 7)
    (H : ∀ b : Nat → Int32, tl_Wt a16 b lv (tl_tt rs * w) 256 → post (fm, fh, fk, nI (lv + 1), ff, fc, ft, a1, a2, a3, a4, a5, a6, a7, a8, a9, a10, a11, a12, a13, a14, a15, b, upd a17 (lv + 1) (nI sz), upd a18 (lv + 1) (nI 0), a19, a20, a21)) : wpX_goToFirst post (fm, fh, fk, fl, ff, fc, ft, a1, a2, a3, a4, a5, a6, a7, a8, a9, a10, a11, a12, a13, a14, a15, a16, a17, a18, a19, a20, a21) (nI sz) (nI rs) := by
  have tp := tl_ttpos sz (by omega) (by omega)
  refine pk_loop (σ := Nat → Int32) (fun g q s => wX_goToFirst_2 post (nI sz) (nI rs) fm fh fk fl ff fc ft g (nI q) a1 a2 a3 a4 a5 a6 a7 a8 a9 a10 a11 a12 a13 a14 a15 s a17 a18 a19 a20 a21) (fun q s => tl_Wt a16 s lv (tl_tt rs * w) q) 256 0 a16 (by omega) ⟨fun _ _ => rfl, fun z => absurd z (by omega)⟩
    (fun g s h => pk_le 256 256 (fun _ => tl_start (lv := lv + 1) (by rw [hfl, nI_1]) (by omega) (by omega) (H s h)) (fun z => absurd z (by omega)))
    (fun g q s hq h hw' => pk_le 256 q (fun z => absurd z (by omega)) (fun _ => ⟨pk_in (256 * sz + q) 2048 (by omega) (tl_lin 256 sz q), ?_⟩))
  rw [(tl_at a14 _ (tl_lin 256 sz q) (by omega)).trans (hC sz (by omega) q hq)]
  by_cases e : q = 0
  · rw [if_pos e]
    refine br_f (nI_nle tp.1 (by omega)) (br_f tl_one_ne (tl_besides ht hC hfl (by omega) (by rw [h.1 _ (by omega)]; exact hw) hr hr7 ⟨pk_in (256 * (lv + 1) + q) 2048 (by omega) (tl_lvq hfl), nm_r (e' := upd s (256 * (lv + 1) + q) (nI (tl_tt rs * w))) ?_ (nm_r (nI_1 q) (hw' _ (tl_Wt_0 h (fun _ => rfl))))⟩))
    rw [pk_cl (256 * (lv + 1) + q) (tl_lvq hfl) (by omega)]
  · rw [if_neg e]
    refine br_t tl_le0 (br_t rfl ⟨pk_in (256 * (lv + 1) + q) 2048 (by omega) (tl_lvq hfl), nm_r (e' := upd s (256 * (lv + 1) + q) 0) ?_ (nm_r (nI_1 q) (hw' _ (tl_Wt_0 h (fun z => absurd z e))))⟩)
    rw [pk_cl (256 * (lv + 1) + q) (tl_lvq hfl) (by omega)]
end
end
section
/-! ===== finding a tree without rules: the machine ===== -/
/-- frames, the innermost first: size, phase, size of the first child, weight -/
def tl_Fr : List (Nat × Nat × Nat × Nat) → (Nat → Int32) → (Nat → Int32) → (Nat → Int32) → (Nat → Int32) → Prop
  | [], _, _, _, _ => True
  | x :: r, a16, a17, a18, a19 => a17 r.length = nI x.1 ∧ a18 r.length = nI x.2.1 ∧ (2 ≤ x.2.1 → a19 r.length = nI x.2.2.1) ∧ a16 (256 * r.length) = nI x.2.2.2 ∧ tl_Fr r a16 a17 a18 a19
theorem tl_Fr_keep {a16 a17 a18 a19 b16 b17 b18 b19 : Nat → Int32} : ∀ {r : List (Nat × Nat × Nat × Nat)}, (∀ j, j < r.length → b16 (256 * j) = a16 (256 * j) ∧ b17 j = a17 j ∧ b18 j = a18 j ∧ b19 j = a19 j) → tl_Fr r a16 a17 a18 a19 → tl_Fr r b16 b17 b18 b19
  | [], _, _ => trivial
  | x :: r, h, hs => by
    obtain ⟨k1, k2, k3, k4⟩ := h r.length (Nat.lt_succ_self _)
    exact ⟨by rw [k2]; exact hs.1, by rw [k3]; exact hs.2.1, fun z => by rw [k4]; exact hs.2.2.1 z, by rw [k1]; exact hs.2.2.2.1, tl_Fr_keep (fun j hj => h j (Nat.lt_succ_of_lt hj)) hs.2.2.2.2⟩
def tl_M (fr : List (Nat × Nat × Nat × Nat)) (lf : Nat) (sp : List Nat) (fl ff ft : Int32) (a16 a17 a18 a19 a21 : Nat → Int32) : Prop :=
  fl = nI fr.length - 1 ∧ fr.length ≤ 8 ∧ ff = nI lf ∧ ft = nI sp.length ∧ sp.length ≤ 12 ∧ tl_Sk sp a21 ∧ tl_Fr fr a16 a17 a18 a19
def tl_sr (sz w : Nat) : Nat → Nat → Nat → Nat × Nat
  | 0, i, lf => (i, lf)
  | g + 1, i, lf => if sz - 2 ≤ i then (i, lf) else if lf < tl_tt i * (tl_tt (sz - 1 - i) * w) then (i, lf) else tl_sr sz w g (i + 1) (lf - tl_tt i * (tl_tt (sz - 1 - i) * w))
def tl_step : List (Nat × Nat × Nat × Nat) → Nat → List Nat → Option (List (Nat × Nat × Nat × Nat) × Nat × List Nat)
  | [], _, _ => none
  | (sz, ph, s, w) :: r, lf, sp =>
    if ph = 0 then
      if sz = 1 then
        if sp.length < 12 ∧ w < 512 ∧ lf < 512 then (if w ≤ lf then some (r, lf - w, 1 :: sp) else some (r, lf, 0 :: sp)) else none
      else if (2 ≤ sz ∧ sz ≤ 7) ∧ sp.length < 12 ∧ r.length < 7 ∧ w < 512 ∧ lf < 512 then
        if tl_tt (sz - 1) * w ≤ lf then
          if 3 ≤ sz ∧ 1 ≤ (tl_sr sz w 8 1 (lf - tl_tt (sz - 1) * w)).1 ∧ (tl_sr sz w 8 1 (lf - tl_tt (sz - 1) * w)).1 + 2 ≤ sz then
            some (((tl_sr sz w 8 1 (lf - tl_tt (sz - 1) * w)).1, 0, 0, tl_tt (sz - 1 - (tl_sr sz w 8 1 (lf - tl_tt (sz - 1) * w)).1) * w) :: (sz, 2, (tl_sr sz w 8 1 (lf - tl_tt (sz - 1) * w)).1, w) :: r, (tl_sr sz w 8 1 (lf - tl_tt (sz - 1) * w)).2, 3 :: sp)
          else none
        else some ((sz - 1, 0, 0, w) :: (sz, 1, s, w) :: r, lf, 2 :: sp)
      else none
    else if ph = 1 then some (r, lf, sp)
    else if ph = 2 then
      if r.length < 7 ∧ s + 2 ≤ sz ∧ sz ≤ 7 then some ((sz - 1 - s, 0, 0, w) :: (sz, 3, s, w) :: r, lf, sp) else none
    else if ph = 3 then some (r, lf, sp) else none
theorem tl_pb {a b w : Nat} (ha : a < 512) (hb : b < 512) (hw : w < 512) : a * (b * w) < 2 ^ 31 := by
  have h1 : b * w ≤ 511 * 511 := Nat.mul_le_mul (by omega) (by omega)
  have h2 : a * (b * w) ≤ 511 * (511 * 511) := Nat.mul_le_mul (by omega) h1
  omega
theorem tl_pb2 {a w : Nat} (ha : a < 512) (hw : w < 512) : a * w < 2 ^ 31 := by
  have h1 : a * w ≤ 511 * 511 := Nat.mul_le_mul (by omega) (by omega)
  omega
theorem tl_ttlt : ∀ n, n < 8 → tl_tt n < 512 := by decide +kernel
section
variable {post : St2 → Prop} {r : List (Nat × Nat × Nat × Nat)} {lf sz s w : Nat} {sp : List Nat} {fm fh fk fl ff fc ft : Int32} {a1 a2 a3 a4 a5 a6 a7 a8 a9 a10 a11 a12 a13 a14 a15 a16 a17 a18 a19 a20 a21 : Nat → Int32}
theorem tl_top104 {i : Nat} (ht : ∀ j, j < 32 → a3 j = 0) (hC : tl_CE a14) (hM : tl_M ((sz, 0, s, w) :: r) lf sp fl ff ft a16 a17 a18 a19 a21) (hs7 : sz ≤ 7) (hsp : sp.length < 12) (hr : r.length < 7) (hi : 1 ≤ i) (hi2 : i + 2 ≤ sz)
    (H : ∀ (fl ff fc ft : Int32) (a16 a17 a18 a19 a20 a21 : Nat → Int32), tl_M ((i, 0, 0, tl_tt (sz - 1 - i) * w) :: (sz, 2, i, w) :: r) lf (3 :: sp) fl ff ft a16 a17 a18 a19 a21 → post (fm, fh, fk, fl, ff, fc, ft, a1, a2, a3, a4, a5, a6, a7, a8, a9, a10, a11, a12, a13, a14, a15, a16, a17, a18, a19, a20, a21)) : wX_chooseTop_104 post (nI sz) (nI i) fm fh fk fl ff fc ft a1 a2 a3 a4 a5 a6 a7 a8 a9 a10 a11 a12 a13 a14 a15 a16 a17 a18 a19 a20 a21 := by
  obtain ⟨m1, m2, m3, m4, m5, m6, m7⟩ := hM
  obtain ⟨f1, f2, f3, f4, f5⟩ := m7
  have hfl : fl = nI r.length := m1.trans (nI_pred r.length)
  unfold wX_chooseTop_104
  refine tl_spell (x := 3) m4 hsp (by omega) ?_
  refine ⟨pk_in r.length 8 (by omega) hfl, nm_r (e' := upd a18 r.length (nI 2)) (by rw [pk_cl r.length hfl (by omega)]; rfl) ⟨pk_in r.length 8 (by omega) hfl, nm_r (e' := upd a19 r.length (nI i)) (by rw [pk_cl r.length hfl (by omega), tl_b8 _ (by omega)]) ?_⟩⟩
  rw [tl_sub2 (show i + 1 ≤ sz by omega)]
  refine tl_goToFirst ht hC hfl hr f4 hi (by omega) (by omega) (by omega) (fun b hb => H _ _ _ _ _ _ _ _ _ _ ?_)
  refine ⟨(nI_pred (r.length + 1)).symm, by show r.length + 2 ≤ 8; omega, m3, rfl, hsp, ⟨pk_us, tl_Sk_upd (Nat.le_refl _) m6⟩, pk_us, pk_us, fun z => absurd (show 2 ≤ 0 from z) (by decide), hb.2 (by omega), ?_⟩
  refine ⟨by rw [pk_un (by omega)]; exact f1, by rw [pk_un (by omega)]; exact pk_us, fun _ => pk_us, by rw [hb.1 _ (by omega)]; exact f4, ?_⟩
  refine tl_Fr_keep (fun j hj => ⟨hb.1 _ (by omega), pk_un (by omega), ?_, pk_un (by omega)⟩) f5
  rw [pk_un (by omega), pk_un (by omega)]
theorem tl_top66 (ht : ∀ j, j < 32 → a3 j = 0) (hC : tl_CE a14) (hs7 : sz ≤ 7) (hsp : sp.length < 12) (hr : r.length < 7) (hw : w < 512) {i' lf' : Nat} (hi' : 1 ≤ i') (hi2' : i' + 2 ≤ sz)
    (H : ∀ (fl ff fc ft : Int32) (a16 a17 a18 a19 a20 a21 : Nat → Int32), tl_M ((i', 0, 0, tl_tt (sz - 1 - i') * w) :: (sz, 2, i', w) :: r) lf' (3 :: sp) fl ff ft a16 a17 a18 a19 a21 → post (fm, fh, fk, fl, ff, fc, ft, a1, a2, a3, a4, a5, a6, a7, a8, a9, a10, a11, a12, a13, a14, a15, a16, a17, a18, a19, a20, a21)) :
    ∀ (g i lf : Nat), 1 ≤ i → i + 2 ≤ sz → sz - 2 - i ≤ g → lf < 512 → tl_sr sz w g i lf = (i', lf') → tl_M ((sz, 0, s, w) :: r) lf sp fl (nI lf) ft a16 a17 a18 a19 a21 →
      wX_chooseTop_66 post (nI sz) fm fh fk fl fc ft a1 a2 a3 a4 a5 a6 a7 a8 a9 a10 a11 a12 a13 a14 a15 a16 a17 a18 a19 a20 a21 (g + 1) (nI (tl_tt i * (tl_tt (sz - 1 - i) * w))) (nI i) (nI lf)
  | 0, i, lf, h1, h2, h3, h4, h5, hM => by
    have e : (i, lf) = (i', lf') := h5
    have e1 : i = i' := congrArg Prod.fst e
    have e2 : lf = lf' := congrArg Prod.snd e
    subst e1 e2
    have hx : nI sz - 2 = nI (sz - 2) := pk_sub (a := sz) (b := 2) (by omega)
    exact pk_le (sz - 2) i (fun _ => tl_top104 ht hC hM hs7 hsp hr hi' hi2' H) (fun z => absurd z (by omega)) hx
  | g + 1, i, lf, h1, h2, h3, h4, h5, hM => by
    have h5' : (if sz - 2 ≤ i then (i, lf) else if lf < tl_tt i * (tl_tt (sz - 1 - i) * w) then (i, lf) else tl_sr sz w g (i + 1) (lf - tl_tt i * (tl_tt (sz - 1 - i) * w))) = (i', lf') := h5
    have hx : nI sz - 2 = nI (sz - 2) := pk_sub (a := sz) (b := 2) (by omega)
    have hb := tl_pb (tl_ttlt i (by omega)) (tl_ttlt (sz - 1 - i) (by omega)) hw
    refine pk_le (sz - 2) i (fun z => ?_) (fun z => ?_) hx
    · rw [if_pos z] at h5'
      have e1 : i = i' := congrArg Prod.fst h5'
      have e2 : lf = lf' := congrArg Prod.snd h5'
      subst e1 e2
      exact tl_top104 ht hC hM hs7 hsp hr hi' hi2' H
    · rw [if_neg (by omega)] at h5'
      refine pk_lt lf (tl_tt i * (tl_tt (sz - 1 - i) * w)) (fun z2 => ?_) (fun z2 => ?_) rfl rfl (by omega) hb
      · rw [if_pos z2] at h5'
        have e1 : i = i' := congrArg Prod.fst h5'
        have e2 : lf = lf' := congrArg Prod.snd h5'
        subst e1 e2
        exact tl_top104 ht hC hM hs7 hsp hr hi' hi2' H
      · rw [if_neg (by omega)] at h5'
        obtain ⟨m1, m2, m3, m4, m5, m6, m7⟩ := hM
        have hfl : fl = nI r.length := m1.trans (nI_pred r.length)
        refine nm_r (pk_sub z2) (nm_r (nI_1 i) ?_)
        refine tl_withTwo ht hC hfl (by omega) m7.2.2.2.1 (by omega) (by omega) hs7 ?_
        exact tl_top66 ht hC hs7 hsp hr hw hi' hi2' H g (i + 1) _ (by omega) (by omega) (by omega) (by omega) h5' ⟨m1, m2, rfl, m4, m5, m6, m7⟩
theorem tl_chooseTop {fr' : List (Nat × Nat × Nat × Nat)} {lf' : Nat} {sp' : List Nat} (ho : ∀ j, j < 8 → a2 j = 0) (ht : ∀ j, j < 32 → a3 j = 0) (hC : tl_CE a14) (hM : tl_M ((sz, 0, s, w) :: r) lf sp fl ff ft a16 a17 a18 a19 a21) (hz : ¬ sz = 1) (hs : tl_step ((sz, 0, s, w) :: r) lf sp = some (fr', lf', sp'))
    (H : ∀ (fl ff fc ft : Int32) (a16 a17 a18 a19 a20 a21 : Nat → Int32), tl_M fr' lf' sp' fl ff ft a16 a17 a18 a19 a21 → post (fm, fh, fk, fl, ff, fc, ft, a1, a2, a3, a4, a5, a6, a7, a8, a9, a10, a11, a12, a13, a14, a15, a16, a17, a18, a19, a20, a21)) : wpX_chooseTop post (fm, fh, fk, fl, ff, fc, ft, a1, a2, a3, a4, a5, a6, a7, a8, a9, a10, a11, a12, a13, a14, a15, a16, a17, a18, a19, a20, a21) := by
  have hM' := hM
  obtain ⟨m1, m2, m3, m4, m5, m6, m7⟩ := hM
  obtain ⟨f1, f2, f3, f4, f5⟩ := m7
  have hfl : fl = nI r.length := m1.trans (nI_pred r.length)
  have m2' : r.length + 1 ≤ 8 := m2
  unfold tl_step at hs
  dsimp only at hs
  rw [if_pos rfl, if_neg hz] at hs
  by_cases c : (2 ≤ sz ∧ sz ≤ 7) ∧ sp.length < 12 ∧ r.length < 7 ∧ w < 512 ∧ lf < 512
  · rw [if_pos c] at hs
    obtain ⟨⟨c1, c2⟩, c3, c4, c5, c6⟩ := c
    have hb := tl_pb2 (tl_ttlt (sz - 1) (by omega)) c5
    refine ⟨pk_in r.length 8 (by omega) hfl, nm_r (e' := nI sz) (by rw [pk_cl r.length hfl (by omega)]; exact f1) ?_⟩
    refine tl_withOne ho hC hfl (by omega) f4 c1 c2 ?_
    refine pk_le (tl_tt (sz - 1) * w) lf (fun z => ?_) (fun z => ?_) rfl m3 hb (by omega)
    · rw [if_pos z] at hs
      by_cases d : 3 ≤ sz ∧ 1 ≤ (tl_sr sz w 8 1 (lf - tl_tt (sz - 1) * w)).1 ∧ (tl_sr sz w 8 1 (lf - tl_tt (sz - 1) * w)).1 + 2 ≤ sz
      · rw [if_pos d] at hs
        obtain ⟨d1, d2, d3⟩ := d
        have hs2 := Option.some.inj hs
        have q1 := congrArg Prod.fst hs2
        have q2 := congrArg (fun y => y.2.1) hs2
        have q3 := congrArg (fun y => y.2.2) hs2
        dsimp only at q1 q2 q3
        subst q1 q2 q3
        refine nm_r (e' := nI (lf - tl_tt (sz - 1) * w)) (by rw [m3, pk_sub z]) (tl_withTwo (i := 1) ht hC hfl (by omega) f4 (by omega) (by omega) c2 ⟨8 + 1, ?_⟩)
        exact tl_top66 (s := s) ht hC c2 c3 c4 c5 d2 d3 H 8 1 (lf - tl_tt (sz - 1) * w) (by omega) (by omega) (by omega) (by omega) rfl ⟨m1, m2, rfl, m4, m5, m6, f1, f2, f3, f4, f5⟩
      · rw [if_neg d] at hs
        exact (nomatch hs)
    · rw [if_neg (by omega)] at hs
      have hs2 := Option.some.inj hs
      have q1 := congrArg Prod.fst hs2
      have q2 := congrArg (fun y => y.2.1) hs2
      have q3 := congrArg (fun y => y.2.2) hs2
      dsimp only at q1 q2 q3
      subst q1 q2 q3
      refine tl_spell (x := 2) m4 c3 (by omega) ?_
      refine ⟨pk_in r.length 8 (by omega) hfl, nm_r (e' := upd a18 r.length (nI 1)) (by rw [pk_cl r.length hfl (by omega)]; rfl) ?_⟩
      rw [tl_sub1 (show 1 ≤ sz by omega)]
      refine tl_goToOnly ho hC hfl c4 f4 (by omega) (by omega) (fun b hb => H _ _ _ _ _ _ _ _ _ _ ?_)
      refine ⟨(nI_pred (r.length + 1)).symm, by show r.length + 2 ≤ 8; omega, m3, rfl, c3, ⟨pk_us, tl_Sk_upd (Nat.le_refl _) m6⟩, pk_us, pk_us, fun z => absurd (show 2 ≤ 0 from z) (by decide), hb.2 (by omega), ?_⟩
      refine ⟨by rw [pk_un (by omega)]; exact f1, by rw [pk_un (by omega)]; exact pk_us, fun z => absurd (show 2 ≤ 1 from z) (by decide), by rw [hb.1 _ (by omega)]; exact f4, ?_⟩
      refine tl_Fr_keep (fun j hj => ⟨hb.1 _ (by omega), pk_un (by omega), ?_, rfl⟩) f5
      rw [pk_un (by omega), pk_un (by omega)]
  · rw [if_neg c] at hs
    exact (nomatch hs)
theorem tl_leaf54 {x lf' : Nat} {y3 y4 : Int32} (hl : ∀ j, j < 4 → a1 j = 0) (hM : tl_M ((sz, 0, s, w) :: r) lf sp fl ff ft a16 a17 a18 a19 a21) (hsp : sp.length < 12) (hx : x < 2) (h3 : y3 = nI x) (h4 : y4 = nI lf')
    (H : ∀ (fl ff fc ft : Int32) (a16 a17 a18 a19 a20 a21 : Nat → Int32), tl_M r lf' (x :: sp) fl ff ft a16 a17 a18 a19 a21 → post (fm, fh, fk, fl, ff, fc, ft, a1, a2, a3, a4, a5, a6, a7, a8, a9, a10, a11, a12, a13, a14, a15, a16, a17, a18, a19, a20, a21)) : wX_chooseLeaf_54 post y3 y4 fm fh fk fl ff fc ft a1 a2 a3 a4 a5 a6 a7 a8 a9 a10 a11 a12 a13 a14 a15 a16 a17 a18 a19 a20 a21 := by
  subst h3 h4
  obtain ⟨m1, m2, m3, m4, m5, m6, m7⟩ := hM
  have m2' : r.length + 1 ≤ 8 := m2
  have hfl : fl = nI r.length := m1.trans (nI_pred r.length)
  unfold wX_chooseLeaf_54
  refine tl_spell m4 hsp (by omega) ?_
  refine tl_leafPair0 hl hx (nm_r (e' := nI r.length - 1) (by rw [hfl]) (H _ _ _ _ _ _ _ _ _ _ ?_))
  exact ⟨rfl, by omega, rfl, rfl, hsp, ⟨pk_us, tl_Sk_upd (Nat.le_refl _) m6⟩, m7.2.2.2.2⟩
theorem tl_chooseLeaf {fr' : List (Nat × Nat × Nat × Nat)} {lf' : Nat} {sp' : List Nat} (hl : ∀ j, j < 4 → a1 j = 0) (hM : tl_M ((1, 0, s, w) :: r) lf sp fl ff ft a16 a17 a18 a19 a21) (hs : tl_step ((1, 0, s, w) :: r) lf sp = some (fr', lf', sp'))
    (H : ∀ (fl ff fc ft : Int32) (a16 a17 a18 a19 a20 a21 : Nat → Int32), tl_M fr' lf' sp' fl ff ft a16 a17 a18 a19 a21 → post (fm, fh, fk, fl, ff, fc, ft, a1, a2, a3, a4, a5, a6, a7, a8, a9, a10, a11, a12, a13, a14, a15, a16, a17, a18, a19, a20, a21)) : wpX_chooseLeaf post (fm, fh, fk, fl, ff, fc, ft, a1, a2, a3, a4, a5, a6, a7, a8, a9, a10, a11, a12, a13, a14, a15, a16, a17, a18, a19, a20, a21) := by
  have hM' := hM
  obtain ⟨m1, m2, m3, m4, m5, m6, m7⟩ := hM
  obtain ⟨f1, f2, f3, f4, f5⟩ := m7
  have m2' : r.length + 1 ≤ 8 := m2
  have hfl : fl = nI r.length := m1.trans (nI_pred r.length)
  unfold tl_step at hs
  dsimp only at hs
  rw [if_pos rfl, if_pos rfl] at hs
  by_cases c : sp.length < 12 ∧ w < 512 ∧ lf < 512
  · rw [if_pos c] at hs
    obtain ⟨c1, c2, c3⟩ := c
    unfold wpX_chooseLeaf
    dsimp only
    refine tl_leafPair0 (x := 0) hl (by omega) ⟨pk_in (256 * r.length) 2048 (by omega) (tl_lv0 hfl), nm_r (e' := nI w) (by rw [pk_cl (256 * r.length) (tl_lv0 hfl) (by omega)]; exact f4) ?_⟩
    refine pk_le w lf (fun z => br_f tl_one_ne ?_) (fun z => br_t rfl ?_) rfl m3
    · rw [if_pos z] at hs
      have hs2 := Option.some.inj hs
      have q1 := congrArg Prod.fst hs2
      have q2 := congrArg (fun y => y.2.1) hs2
      have q3 := congrArg (fun y => y.2.2) hs2
      dsimp only at q1 q2 q3
      subst q1 q2 q3
      exact tl_leaf54 (x := 1) hl hM' c1 (by omega) rfl (by rw [m3, pk_sub z]) H
    · rw [if_neg (by omega)] at hs
      have hs2 := Option.some.inj hs
      have q1 := congrArg Prod.fst hs2
      have q2 := congrArg (fun y => y.2.1) hs2
      have q3 := congrArg (fun y => y.2.2) hs2
      dsimp only at q1 q2 q3
      subst q1 q2 q3
      exact tl_leaf54 (x := 0) hl hM' c1 (by omega) rfl m3 H
  · rw [if_neg c] at hs
    exact (nomatch hs)
theorem tl_work {fr fr' : List (Nat × Nat × Nat × Nat)} {lf' : Nat} {sp' : List Nat} (hl : ∀ j, j < 4 → a1 j = 0) (ho : ∀ j, j < 8 → a2 j = 0) (ht : ∀ j, j < 32 → a3 j = 0) (hC : tl_CE a14) (hM : tl_M fr lf sp fl ff ft a16 a17 a18 a19 a21) (hs : tl_step fr lf sp = some (fr', lf', sp'))
    (H : ∀ (fl ff fc ft : Int32) (a16 a17 a18 a19 a20 a21 : Nat → Int32), tl_M fr' lf' sp' fl ff ft a16 a17 a18 a19 a21 → post (fm, fh, fk, fl, ff, fc, ft, a1, a2, a3, a4, a5, a6, a7, a8, a9, a10, a11, a12, a13, a14, a15, a16, a17, a18, a19, a20, a21)) : wpX_work post (fm, fh, fk, fl, ff, fc, ft, a1, a2, a3, a4, a5, a6, a7, a8, a9, a10, a11, a12, a13, a14, a15, a16, a17, a18, a19, a20, a21) := by
  match fr, hM, hs with
  | [], _, hs => exact (nomatch hs)
  | (sz, ph, s, w) :: r, hM, hs =>
    have hM' := hM
    obtain ⟨m1, m2, m3, m4, m5, m6, m7⟩ := hM
    obtain ⟨f1, f2, f3, f4, f5⟩ := m7
    have m2' : r.length + 1 ≤ 8 := m2
    have hfl : fl = nI r.length := m1.trans (nI_pred r.length)
    have e17 : a17 fl.toNatClampNeg = nI sz := (tl_at a17 r.length hfl (by omega)).trans f1
    have e18 : a18 fl.toNatClampNeg = nI ph := (tl_at a18 r.length hfl (by omega)).trans f2
    have hin : vp_in fl 8 := pk_in r.length 8 (by omega) hfl
    have hs' := hs
    unfold tl_step at hs'
    dsimp only at hs'
    unfold wpX_work
    dsimp only
    rw [e18, e17]
    refine ⟨hin, ?_⟩
    by_cases p0 : ph = 0
    · subst p0
      refine br_t rfl ⟨hin, ?_⟩
      by_cases p1 : sz = 1
      · subst p1
        exact br_t rfl (tl_chooseLeaf hl hM' hs H)
      · rw [if_pos rfl, if_neg p1] at hs'
        have hsz : sz < 2 ^ 31 := by
          by_cases c : (2 ≤ sz ∧ sz ≤ 7) ∧ sp.length < 12 ∧ r.length < 7 ∧ w < 512 ∧ lf < 512
          · omega
          · rw [if_neg c] at hs'
            exact (nomatch hs')
        exact pk_eq sz 1 (fun z => absurd z p1) (fun _ => tl_chooseTop ho ht hC hM' p1 hs H)
    · rw [if_neg p0] at hs'
      have hph : ph < 2 ^ 31 := by
        by_cases p1 : ph = 1
        · omega
        · rw [if_neg p1] at hs'
          by_cases p2 : ph = 2
          · omega
          · rw [if_neg p2] at hs'
            by_cases p3 : ph = 3
            · omega
            · rw [if_neg p3] at hs'
              exact (nomatch hs')
      refine pk_eq ph 0 (fun z => absurd z p0) (fun _ => ⟨hin, ?_⟩)
      refine pk_eq ph 1 (fun p1 => ?_) (fun p1 => ⟨hin, ?_⟩)
      · rw [if_pos p1] at hs'
        have hs2 := Option.some.inj hs'
        have q1 := congrArg Prod.fst hs2
        have q2 := congrArg (fun y => y.2.1) hs2
        have q3 := congrArg (fun y => y.2.2) hs2
        dsimp only at q1 q2 q3
        subst q1 q2 q3
        exact tl_onePair0 ho (nm_r (e' := nI r.length - 1) (by rw [hfl]) (H _ _ _ _ _ _ _ _ _ _ ⟨rfl, by omega, m3, m4, m5, m6, f5⟩))
      · rw [if_neg p1] at hs'
        refine pk_eq ph 2 (fun p2 => ⟨hin, ?_⟩) (fun p2 => ⟨hin, ?_⟩)
        · rw [if_pos p2] at hs'
          by_cases c : r.length < 7 ∧ s + 2 ≤ sz ∧ sz ≤ 7
          · rw [if_pos c] at hs'
            have hs2 := Option.some.inj hs'
            have q1 := congrArg Prod.fst hs2
            have q2 := congrArg (fun y => y.2.1) hs2
            have q3 := congrArg (fun y => y.2.2) hs2
            dsimp only at q1 q2 q3
            subst q1 q2 q3
            have f3' : a19 fl.toNatClampNeg = nI s := (tl_at a19 r.length hfl (by omega)).trans (f3 (by show 2 ≤ ph; omega))
            refine nm_e ⟨hin, nm_r (e' := upd a18 r.length (nI 3)) (by rw [pk_cl r.length hfl (by omega)]; rfl) ⟨hin, hin, ?_⟩⟩
            rw [f3', tl_sub2 (show s + 1 ≤ sz by omega)]
            refine tl_goToSecond ht hC hfl c.1 f4 (by omega) (by omega) (fun b hb => H (nI (r.length + 1)) ff fc ft b (upd a17 (r.length + 1) (nI (sz - 1 - s))) (upd (upd a18 r.length (nI 3)) (r.length + 1) (nI 0)) a19 _ a21 ?_)
            refine ⟨(nI_pred (r.length + 1)).symm, by show r.length + 2 ≤ 8; omega, m3, m4, m5, m6, pk_us, pk_us, fun z => absurd (show 2 ≤ 0 from z) (by decide), hb.2 (by omega), ?_⟩
            refine ⟨by rw [pk_un (by omega)]; exact f1, by rw [pk_un (by omega)]; exact pk_us, fun _ => f3 (by show 2 ≤ ph; omega), by rw [hb.1 _ (by omega)]; exact f4, ?_⟩
            refine tl_Fr_keep (fun j hj => ⟨hb.1 _ (by omega), pk_un (by omega), ?_, rfl⟩) f5
            rw [pk_un (by omega), pk_un (by omega)]
          · rw [if_neg c] at hs'
            exact (nomatch hs')
        · rw [if_neg p2] at hs'
          by_cases p3 : ph = 3
          · rw [if_pos p3] at hs'
            have hs2 := Option.some.inj hs'
            have q1 := congrArg Prod.fst hs2
            have q2 := congrArg (fun y => y.2.1) hs2
            have q3 := congrArg (fun y => y.2.2) hs2
            dsimp only at q1 q2 q3
            subst q1 q2 q3
            exact tl_twoPair0 ht (nm_r (e' := nI r.length - 1) (by rw [hfl]) (H _ _ _ _ _ _ _ _ _ _ ⟨rfl, by omega, m3, m4, m5, m6, f5⟩))
          · rw [if_neg p3] at hs'
            exact (nomatch hs')
end
end
section
/-! ===== the letters become trees on the stack ===== -/
def tl_tk : List Nat → List (Nat × Nat × Nat × Nat) → List Nat → Option (List (Nat × Nat × Nat × Nat) × List Nat)
  | [], T, st => some (T, st)
  | x :: sp, T, st =>
    if T.length < 12 ∧ x < 4 then
      if x = 3 then
        match st with
        | b :: a :: r => if 1 + (tl_nd T b).2.2.2 + (tl_nd T a).2.2.2 ≤ 12 then tl_tk sp (T ++ [(3, b, a, 1 + (tl_nd T b).2.2.2 + (tl_nd T a).2.2.2)]) (T.length :: r) else none
        | _ => none
      else if x = 2 then
        match st with
        | a :: r => if 1 + (tl_nd T a).2.2.2 ≤ 12 then tl_tk sp (T ++ [(2, a, 0, 1 + (tl_nd T a).2.2.2)]) (T.length :: r) else none
        | _ => none
      else tl_tk sp (T ++ [(x, 0, 0, 1)]) (T.length :: st)
    else none
theorem tl_mm1 (x : Int32) : x + (-1) = x - 1 := by
  rw [Int32.sub_eq_add_neg]
theorem tl_take12 {post : St2 → Prop} {T' : List (Nat × Nat × Nat × Nat)} {st' : List Nat} {fk fl ff fc ft : Int32} {a1 a2 a3 a4 a10 a11 a12 a13 a14 a15 a16 a17 a18 a19 a20 a21 : Nat → Int32} (H : ∀ (fm fh : Int32) (a5 a6 a7 a8 a9 : Nat → Int32), tl_Tr T' st' fm fh a5 a6 a7 a8 a9 → post (fm, fh, fk, fl, ff, fc, ft, a1, a2, a3, a4, a5, a6, a7, a8, a9, a10, a11, a12, a13, a14, a15, a16, a17, a18, a19, a20, a21)) :
    ∀ (sp : List Nat) (T : List (Nat × Nat × Nat × Nat)) (st : List Nat) (fm fh : Int32) (a5 a6 a7 a8 a9 : Nat → Int32), tl_tk sp T st = some (T', st') → sp.length ≤ 12 → tl_Sk sp a21 → tl_Tr T st fm fh a5 a6 a7 a8 a9 → wX_takeOver_12 post (sp.length + 1) (nI sp.length - 1) fm fh fk fl ff fc ft a1 a2 a3 a4 a5 a6 a7 a8 a9 a10 a11 a12 a13 a14 a15 a16 a17 a18 a19 a20 a21
  | [], T, st, fm, fh, a5, a6, a7, a8, a9, h, _, _, hT => by
    have e : (T, st) = (T', st') := Option.some.inj h
    have e1 : T = T' := congrArg Prod.fst e
    have e2 : st = st' := congrArg Prod.snd e
    subst e1 e2
    exact br_t (show nI 0 - 1 < 0 by decide) (H _ _ _ _ _ _ _ hT)
  | x :: sp, T, st, fm, fh, a5, a6, a7, a8, a9, h, hl, hs, hT => by
    have hl' : sp.length + 1 ≤ 12 := hl
    have ex : nI (x :: sp).length - 1 = nI sp.length := nI_pred sp.length
    rw [ex]
    have h' := h
    unfold tl_tk at h'
    clear h
    refine br_f (nI_pos (by omega)) ⟨pk_in sp.length 12 (by omega), nm_r (e' := nI x) (by rw [nI_clamp (by omega)]; exact hs.1) ?_⟩
    by_cases c : T.length < 12 ∧ x < 4
    · rw [if_pos c] at h'
      obtain ⟨c1, c2⟩ := c
      by_cases c3 : x = 3
      · subst c3
        rw [if_pos rfl] at h'
        match st, h', hT with
        | [], h', _ => exact (nomatch h')
        | [_], h', _ => exact (nomatch h')
        | b :: a :: r, h', hT =>
          have h2 : (if 1 + (tl_nd T b).2.2.2 + (tl_nd T a).2.2.2 ≤ 12 then tl_tk sp (T ++ [(3, b, a, 1 + (tl_nd T b).2.2.2 + (tl_nd T a).2.2.2)]) (T.length :: r) else none) = some (T', st') := h'
          by_cases d : 1 + (tl_nd T b).2.2.2 + (tl_nd T a).2.2.2 ≤ 12
          · rw [if_pos d] at h2
            obtain ⟨t1, t2, t3, t4, t5, t6, t7⟩ := hT
            have t4' : r.length + 1 + 1 ≤ T.length := t4
            have e1 : fh - 1 = nI (r.length + 1) := by rw [t2]; exact nI_pred (r.length + 1)
            have e2 : fh - 2 = nI r.length := by rw [t2]; exact pk_sub (a := r.length + 1 + 1) (b := 2) (by omega)
            have hb := t5 b (List.mem_cons_self ..)
            have ha := t5 a (List.mem_cons_of_mem _ (List.mem_cons_self ..))
            refine br_t rfl ⟨pk_in (r.length + 1) 12 (by omega) e1, nm_r (e' := nI b) ((tl_at a9 _ e1 (by omega)).trans t6.1) ⟨pk_in r.length 12 (by omega) e2, pk_in (r.length + 1) 12 (by omega) e1, nm_r (e' := upd a9 (r.length + 1) (nI a)) ?_ ⟨pk_in r.length 12 (by omega) e2, nm_r (e' := upd (upd a9 (r.length + 1) (nI a)) r.length (nI b)) ?_ ?_⟩⟩⟩
            · rw [pk_cl _ e1 (by omega), pk_cl _ e2 (by omega), t6.2.1, tl_nar (by omega)]
            · rw [pk_cl _ e2 (by omega), tl_nar (by omega)]
            · refine br_t (by decide) ?_
              unfold wX_takeOver_88
              rw [show nI 3 - 1 = 2 by decide]
              refine tl_make2 (x := 3) (a := b) (b := a) (st := r) (T := T) ⟨t1, t2, t3, t4, fun y hy => ?_, ⟨?_, pk_us, ?_⟩, t7⟩ c1 c2 d (fun _ _ _ _ _ _ _ k => nm_r (tl_mm1 _) (tl_take12 H sp _ _ _ _ _ _ _ _ _ h2 (by omega) hs.2 k))
              · rcases List.mem_cons.mp hy with e | e
                · rw [e]; exact ha
                · rcases List.mem_cons.mp e with e | e
                  · rw [e]; exact hb
                  · exact t5 y (List.mem_cons_of_mem _ (List.mem_cons_of_mem _ e))
              · exact (pk_un (show r.length + 1 ≠ r.length by omega)).trans pk_us
              · exact tl_Sk_upd (Nat.le_refl _) (tl_Sk_upd (Nat.le_succ _) t6.2.2)
          · rw [if_neg d] at h2
            exact (nomatch h2)
      · rw [if_neg c3] at h'
        refine pk_eq x 3 (fun z => absurd z c3) (fun _ => ?_)
        by_cases c4 : x = 2
        · subst c4
          rw [if_pos rfl] at h'
          match st, h', hT with
          | [], h', _ => exact (nomatch h')
          | a :: r, h', hT =>
            have h2 : (if 1 + (tl_nd T a).2.2.2 ≤ 12 then tl_tk sp (T ++ [(2, a, 0, 1 + (tl_nd T a).2.2.2)]) (T.length :: r) else none) = some (T', st') := h'
            by_cases d : 1 + (tl_nd T a).2.2.2 ≤ 12
            · rw [if_pos d] at h2
              refine br_t (by decide) ?_
              unfold wX_takeOver_88
              rw [show nI 2 - 1 = 1 by decide]
              exact tl_make1 (x := 2) hT c1 c2 d (fun _ _ _ _ _ _ _ k => nm_r (tl_mm1 _) (tl_take12 H sp _ _ _ _ _ _ _ _ _ h2 (by omega) hs.2 k))
            · rw [if_neg d] at h2
              exact (nomatch h2)
        · rw [if_neg c4] at h'
          refine pk_le 2 x (fun z => absurd z (by omega)) (fun _ => ?_)
          unfold wX_takeOver_88
          exact tl_make0 hT c1 c2 (fun _ _ _ _ _ _ _ k => nm_r (tl_mm1 _) (tl_take12 H sp _ _ _ _ _ _ _ _ _ h' (by omega) hs.2 k))
    · rw [if_neg c] at h'
      exact (nomatch h')
theorem tl_takeOver {post : St2 → Prop} {sp : List Nat} {T' : List (Nat × Nat × Nat × Nat)} {st' : List Nat} {fm fh fk fl ff fc ft : Int32} {a1 a2 a3 a4 a5 a6 a7 a8 a9 a10 a11 a12 a13 a14 a15 a16 a17 a18 a19 a20 a21 : Nat → Int32} (hft : ft = nI sp.length) (hl : sp.length ≤ 12) (hs : tl_Sk sp a21) (h : tl_tk sp [] [] = some (T', st'))
    (H : ∀ (fm fh : Int32) (a5 a6 a7 a8 a9 : Nat → Int32), tl_Tr T' st' fm fh a5 a6 a7 a8 a9 → post (fm, fh, fk, fl, ff, fc, ft, a1, a2, a3, a4, a5, a6, a7, a8, a9, a10, a11, a12, a13, a14, a15, a16, a17, a18, a19, a20, a21)) : wpX_takeOver post (fm, fh, fk, fl, ff, fc, ft, a1, a2, a3, a4, a5, a6, a7, a8, a9, a10, a11, a12, a13, a14, a15, a16, a17, a18, a19, a20, a21) := by
  unfold wpX_takeOver
  dsimp only
  unfold wpX_discard
  dsimp only
  refine nm_r (e' := nI sp.length - 1) (by rw [hft]) ⟨sp.length + 1, ?_⟩
  exact tl_take12 H sp [] [] 0 0 a5 a6 a7 a8 a9 h hl hs ⟨rfl, rfl, by decide, by decide, fun _ z => (nomatch z), trivial, fun j hj => absurd hj (Nat.not_lt_zero j)⟩
/-! ===== the search ===== -/
def tl_run : Nat → List (Nat × Nat × Nat × Nat) → Nat → List Nat → Option (List Nat)
  | 0, _, _, _ => none
  | _ + 1, [], _, sp => some sp
  | g + 1, x :: r, lf, sp => match tl_step (x :: r) lf sp with
    | some (fr, lf, sp) => tl_run g fr lf sp
    | none => none
theorem tl_load112 {post : Int32 → St2 → Prop} {sp' : List Nat} {fm fh fk : Int32} {a1 a2 a3 a4 a5 a6 a7 a8 a9 a10 a11 a12 a13 a14 a15 : Nat → Int32} (hl : ∀ j, j < 4 → a1 j = 0) (ho : ∀ j, j < 8 → a2 j = 0) (ht : ∀ j, j < 32 → a3 j = 0) (hC : tl_CE a14)
    (H : ∀ (lf : Nat) (fl ff fc ft : Int32) (a16 a17 a18 a19 a20 a21 : Nat → Int32), tl_M [] lf sp' fl ff ft a16 a17 a18 a19 a21 → wX_load_136 post fm fh fk fl ff fc ft a1 a2 a3 a4 a5 a6 a7 a8 a9 a10 a11 a12 a13 a14 a15 a16 a17 a18 a19 a20 a21) :
    ∀ (g c : Nat) (fr : List (Nat × Nat × Nat × Nat)) (lf : Nat) (sp : List Nat) (fl ff fc ft : Int32) (a16 a17 a18 a19 a20 a21 : Nat → Int32), tl_run g fr lf sp = some sp' → c + g ≤ 64 → tl_M fr lf sp fl ff ft a16 a17 a18 a19 a21 → wX_load_112 post g (nI c) fm fh fk fl ff fc ft a1 a2 a3 a4 a5 a6 a7 a8 a9 a10 a11 a12 a13 a14 a15 a16 a17 a18 a19 a20 a21
  | 0, _, _, _, _, _, _, _, _, _, _, _, _, _, _, h, _, _ => (nomatch h)
  | g + 1, c, [], lf, sp, fl, ff, fc, ft, a16, a17, a18, a19, a20, a21, h, hc, hM => by
    have e : sp = sp' := Option.some.inj h
    subst e
    refine pk_le 64 c (fun z => absurd z (by omega)) (fun _ => br_t (by rw [hM.1]; show nI 0 - 1 < 0; decide) (H _ _ _ _ _ _ _ _ _ _ _ hM))
  | g + 1, c, x :: r, lf, sp, fl, ff, fc, ft, a16, a17, a18, a19, a20, a21, h, hc, hM => by
    have h' : (match tl_step (x :: r) lf sp with
      | some (fr, lf, sp) => tl_run g fr lf sp
      | none => none) = some sp' := h
    have m2 : r.length + 1 ≤ 8 := hM.2.1
    cases hs : tl_step (x :: r) lf sp with
    | none =>
      rw [hs] at h'
      exact (nomatch h')
    | some y =>
      obtain ⟨fr2, lf2, sp2⟩ := y
      rw [hs] at h'
      refine pk_le 64 c (fun z => absurd z (by omega)) (fun _ => br_f (by rw [hM.1.trans (nI_pred r.length)]; exact nI_pos (by omega)) ?_)
      exact tl_work hl ho ht hC hM hs (fun _ _ _ _ _ _ _ _ _ _ k => nm_r (nI_1 c) (tl_load112 hl ho ht hC H g (c + 1) fr2 lf2 sp2 _ _ _ _ _ _ _ _ _ _ h' (by omega) k))
theorem tl_load49 {post : Int32 → St2 → Prop} {κ n : Nat} {x3 : Int32} {fm fh fk fl ff fc ft : Int32} {a1 a2 a3 a4 a5 a6 a7 a8 a9 a10 a11 a12 a13 a14 a15 a16 a17 a18 a19 a20 a21 : Nat → Int32} (hf : tl_ok a4 tl_z 2) (hκ : κ < 7) (h4 : 4 < κ) (hn : n < 128)
    (H : ∀ b : Nat → Int32, b 0 = nI 1 → ∃ fu, wX_load_112 post fu 0 fm fh fk (nI 0) x3 fc 0 a1 a2 a3 a4 a5 a6 a7 a8 a9 a10 a11 a12 a13 a14 a15 b (upd a17 0 (nI n)) (upd a18 0 (nI 0)) a19 a20 a21) : ∃ fu, wX_load_49 post (nI κ) (nI n) x3 fm fh fk fl ff fc ft fu 0 a1 a2 a3 a4 a5 a6 a7 a8 a9 a10 a11 a12 a13 a14 a15 a16 a17 a18 a19 a20 a21 := by
  refine pk_loop (σ := Nat → Int32) (fun g q s => wX_load_49 post (nI κ) (nI n) x3 fm fh fk fl ff fc ft g (nI q) a1 a2 a3 a4 a5 a6 a7 a8 a9 a10 a11 a12 a13 a14 a15 s a17 a18 a19 a20 a21) (fun q s => 0 < q → s 0 = nI 1) 256 0 a16 (by omega) (fun z => absurd z (by omega))
    (fun g s h => pk_le 256 256 (fun _ => tl_start (lv := 0) (by decide) (by omega) hn (H s (h (by omega)))) (fun z => absurd z (by omega)))
    (fun g q s hq h hw => pk_le 256 q (fun z => absurd z (by omega)) (fun _ => tl_isOf hf hκ hq ?_))
  rw [tl_isz hκ, decide_eq_true h4]
  refine br_f tl_one_ne ⟨pk_in q 2048 (by omega), nm_r (e' := upd s q (nI 1)) (by rw [nI_clamp (by omega)]; rfl) (nm_r (nI_1 q) (hw _ (fun _ => ?_)))⟩
  by_cases e : q = 0
  · rw [e]
    exact pk_us
  · rw [pk_un (by omega)]
    exact h (by omega)
section
variable {l o t f : Nat → Nat} {T : List (Nat × Nat × Nat × Nat)} {st : List Nat} {post : Int32 → St2 → Prop} {pst : Int32 → Prop} {fm fh fk fl ff fc ft : Int32} {a1 a2 a3 a4 a5 a6 a7 a8 a9 a10 a11 a12 a13 a14 a15 a16 a17 a18 a19 a20 a21 : Nat → Int32}
theorem tl_load_bad {p n k : Int32} (hb : (p < 0 ∨ ¬ p ≤ 6) ∨ (n < 1 ∨ ¬ n ≤ 7)) (H : post (-1) (fm, fh, fk, fl, ff, fc, ft, a1, a2, a3, a4, a5, a6, a7, a8, a9, a10, a11, a12, a13, a14, a15, a16, a17, a18, a19, a20, a21)) : wpX_load post (fm, fh, fk, fl, ff, fc, ft, a1, a2, a3, a4, a5, a6, a7, a8, a9, a10, a11, a12, a13, a14, a15, a16, a17, a18, a19, a20, a21) p n k := by
  unfold wpX_load
  dsimp only
  rcases hb with z | z | z
  · exact tl_bK_t z (br_f tl_one_ne H)
  · exact tl_bK (br_t rfl (br_t z H)) (br_f tl_one_ne H)
  · exact tl_bK (br_t rfl (br_c (fun _ => H) (fun _ => br_f z H))) (br_f tl_one_ne H)
theorem tl_load_no {κ n k : Nat} (h : tl_I tl_z tl_z tl_z tl_z tl_CE T st (fm, fh, fk, fl, ff, fc, ft, a1, a2, a3, a4, a5, a6, a7, a8, a9, a10, a11, a12, a13, a14, a15, a16, a17, a18, a19, a20, a21)) (hκ : κ < 7) (hn1 : 1 ≤ n) (hn : n ≤ 7) (hk : k < 2 ^ 31) (hno : (if 4 < κ then tl_tt n else 0) ≤ k) (H : ∀ (fm fh fk fl ff fc ft : Int32) (a1 a2 a3 a4 a5 a6 a7 a8 a9 a10 a11 a12 a13 a14 a15 a16 a17 a18 a19 a20 a21 : Nat → Int32), tl_I tl_z tl_z tl_z tl_z tl_CE T st (fm, fh, fk, fl, ff, fc, ft, a1, a2, a3, a4, a5, a6, a7, a8, a9, a10, a11, a12, a13, a14, a15, a16, a17, a18, a19, a20, a21) → post (-4) (fm, fh, fk, fl, ff, fc, ft, a1, a2, a3, a4, a5, a6, a7, a8, a9, a10, a11, a12, a13, a14, a15, a16, a17, a18, a19, a20, a21)) : wpX_load post (fm, fh, fk, fl, ff, fc, ft, a1, a2, a3, a4, a5, a6, a7, a8, a9, a10, a11, a12, a13, a14, a15, a16, a17, a18, a19, a20, a21) (nI κ) (nI n) (nI k) := by
  unfold wpX_load
  dsimp only
  obtain ⟨g1, g2, g3, hh⟩ := h
  refine tl_bK_f hκ (br_t rfl (br_f (nI_nlt (b := 1) hn1 (by omega)) (br_t (nI_le (b := 7) hn (by omega)) ?_)))
  refine tl_findC g1.1 g1.2.1 g1.2.2.1 g2 (fun s hs => tl_CE_find hs) (fun fk a14 hC => ?_)
  exact tl_countOfE g1.2.2.2 hC hκ hn (br_f (nI_pos hk) (br_f (nI_nlt hno hk) (H _ _ _ _ _ _ _ _ _ _ _ _ _ _ _ _ _ _ _ _ _ _ _ _ _ _ _ _ ⟨g1, fun _ => hC, g3, hh⟩)))
theorem tl_load_yes {κ n k : Nat} {sp : List Nat} {T' : List (Nat × Nat × Nat × Nat)} {st' : List Nat} (h : tl_I tl_z tl_z tl_z tl_z tl_CE T st (fm, fh, fk, fl, ff, fc, ft, a1, a2, a3, a4, a5, a6, a7, a8, a9, a10, a11, a12, a13, a14, a15, a16, a17, a18, a19, a20, a21)) (hκ : κ < 7) (h4 : 4 < κ) (hn1 : 1 ≤ n) (hn : n ≤ 7) (hk : k < tl_tt n)
    (hr : tl_run 20 [(n, 0, 0, 1)] k [] = some sp) (ht : tl_tk sp [] [] = some (T', st')) (H : ∀ (fm fh fk fl ff fc ft : Int32) (a1 a2 a3 a4 a5 a6 a7 a8 a9 a10 a11 a12 a13 a14 a15 a16 a17 a18 a19 a20 a21 : Nat → Int32), tl_I tl_z tl_z tl_z tl_z tl_CE T' st' (fm, fh, fk, fl, ff, fc, ft, a1, a2, a3, a4, a5, a6, a7, a8, a9, a10, a11, a12, a13, a14, a15, a16, a17, a18, a19, a20, a21) → post 0 (fm, fh, fk, fl, ff, fc, ft, a1, a2, a3, a4, a5, a6, a7, a8, a9, a10, a11, a12, a13, a14, a15, a16, a17, a18, a19, a20, a21)) : wpX_load post (fm, fh, fk, fl, ff, fc, ft, a1, a2, a3, a4, a5, a6, a7, a8, a9, a10, a11, a12, a13, a14, a15, a16, a17, a18, a19, a20, a21) (nI κ) (nI n) (nI k) := by
  unfold wpX_load
  dsimp only
  obtain ⟨g1, g2, g3, hh⟩ := h
  have hb := tl_ttlt n (by omega)
  refine tl_bK_f hκ (br_t rfl (br_f (nI_nlt (b := 1) hn1 (by omega)) (br_t (nI_le (b := 7) hn (by omega)) ?_)))
  refine tl_findC g1.1 g1.2.1 g1.2.2.1 g2 (fun s hs => tl_CE_find hs) (fun fk a14 hC => ?_)
  refine tl_countOfE g1.2.2.2 hC hκ hn ?_
  rw [if_pos h4]
  refine br_f (nI_pos (by omega)) (br_t (nI_lt hk (by omega)) ?_)
  refine tl_load49 g1.2.2.2 hκ h4 (by omega) (fun b hb0 => ⟨20, ?_⟩)
  refine tl_load112 (sp' := sp) (fun j hj => (g1.1 j hj).1) (fun j hj => (g1.2.1 j hj).1) (fun j hj => (g1.2.2.1 j hj).1) hC ?_ 20 0 [(n, 0, 0, 1)] k [] _ _ _ _ _ _ _ _ _ _ hr (by omega) ⟨(nI_pred 0).symm, show 1 ≤ 8 by decide, rfl, rfl, show 0 ≤ 12 by decide, trivial, pk_us, pk_us, fun z => absurd (show 2 ≤ 0 from z) (by decide), hb0, trivial⟩
  intro lf fl ff fc ft a16 a17 a18 a19 a20 a21 hM
  unfold wX_load_136
  exact tl_takeOver hM.2.2.2.1 hM.2.2.2.2.1 hM.2.2.2.2.2.1 ht (fun _ _ _ _ _ _ _ k => H _ _ _ _ _ _ _ _ _ _ _ _ _ _ _ _ _ _ _ _ _ _ _ _ _ _ _ _ ⟨g1, fun _ => hC, g3, k⟩)
theorem tl_is6 (f : Nat → Nat) (q : Nat) : tl_is f 6 q = true := rfl
theorem tl_load1_no (h : tl_I l o t f (tl_C1 l) T st (fm, fh, fk, fl, ff, fc, ft, a1, a2, a3, a4, a5, a6, a7, a8, a9, a10, a11, a12, a13, a14, a15, a16, a17, a18, a19, a20, a21)) (H : ∀ (fm fh fk fl ff fc ft : Int32) (a1 a2 a3 a4 a5 a6 a7 a8 a9 a10 a11 a12 a13 a14 a15 a16 a17 a18 a19 a20 a21 : Nat → Int32), tl_I l o t f (tl_C1 l) T st (fm, fh, fk, fl, ff, fc, ft, a1, a2, a3, a4, a5, a6, a7, a8, a9, a10, a11, a12, a13, a14, a15, a16, a17, a18, a19, a20, a21) → post (-4) (fm, fh, fk, fl, ff, fc, ft, a1, a2, a3, a4, a5, a6, a7, a8, a9, a10, a11, a12, a13, a14, a15, a16, a17, a18, a19, a20, a21)) : wpX_load post (fm, fh, fk, fl, ff, fc, ft, a1, a2, a3, a4, a5, a6, a7, a8, a9, a10, a11, a12, a13, a14, a15, a16, a17, a18, a19, a20, a21) 6 1 2 := by
  unfold wpX_load
  dsimp only
  obtain ⟨g1, g2, g3, hh⟩ := h
  refine tl_bK_f (κ := 6) (by omega) (br_t rfl (br_f (by decide) (br_t (by decide) ?_)))
  refine tl_findC g1.1 g1.2.1 g1.2.2.1 g2 (fun s hs => tl_C1_find (tl_ok_lt g1.1) hs) (fun fk a14 hC => ?_)
  exact tl_countOf1 (κ := 6) g1.2.2.2 (tl_ok_lt g1.1) hC (by omega) (br_f (by decide) (br_f (show ¬ (2 : Int32) < nI 2 by decide) (H _ _ _ _ _ _ _ _ _ _ _ _ _ _ _ _ _ _ _ _ _ _ _ _ _ _ _ _ ⟨g1, fun _ => hC, g3, hh⟩)))
end
/-! ===== every tree has its number ===== -/
def tl_num (T : List (Nat × Nat × Nat × Nat)) (R : List Nat) (n : Nat × Nat × Nat × Nat) : Nat :=
  if n.1 < 2 then n.1 else if n.1 = 2 then R.getD n.2.1 0 else tl_ps n.2.2.2 (tl_nd T n.2.1).2.2.2 + (R.getD n.2.1 0 * tl_tt (tl_nd T n.2.2.1).2.2.2 + R.getD n.2.2.1 0)
def tl_nums (T : List (Nat × Nat × Nat × Nat)) : List (Nat × Nat × Nat × Nat) → List Nat → List Nat
  | [], R => R
  | n :: r, R => tl_nums T r (R ++ [tl_num T R n])
def tl_chk3 (T : List (Nat × Nat × Nat × Nat)) (st : List Nat) (R : List Nat) (n k : Nat) : Bool :=
  decide (T.length = n) && decide (st = [n - 1]) && decide ((tl_nd T (n - 1)).2.2.2 = n) && decide (R.getD (n - 1) 0 = k) && (List.range n).all (fun j => decide (tl_rkP T (fun i => R.getD i 0) j))
def tl_chk2 (p : Option (List (Nat × Nat × Nat × Nat) × List Nat)) (n k : Nat) : Bool :=
  match p with
  | none => false
  | some (T, st) => tl_chk3 T st (tl_nums T T []) n k
def tl_chk (n k : Nat) : Bool :=
  match tl_run 20 [(n, 0, 0, 1)] k [] with
  | none => false
  | some sp => tl_chk2 (tl_tk sp [] []) n k
def tl_chk0 (n : Nat) : Bool :=
  match tl_run 20 [(n, 0, 0, 1)] 0 [] with
  | none => false
  | some sp => match tl_tk sp [] [] with
    | none => false
    | some (T, _) => match tl_wr T 20 [n - 1] [] with
      | none => false
      | some w => decide (w.length = n) && decide (w.getD (n - 1) 0 = if n = 1 then 0 else 2) && decide (w.getD 0 0 = 0)
end
section
theorem tl_chk_lo : ∀ n, n < 7 → 1 ≤ n → ∀ k, k < tl_tt n → tl_chk n k = true := by decide +kernel
theorem tl_chk_7 : ∀ k, k < 382 → tl_chk 7 k = true := by decide +kernel
theorem tl_chk_0 : ∀ n, n < 8 → 1 ≤ n → tl_chk0 n = true := by decide +kernel
end
section
/-! ===== from the tables ===== -/
theorem tl_chk_ok {n k : Nat} (hn1 : 1 ≤ n) (hn : n ≤ 7) (hk : k < tl_tt n) : tl_chk n k = true := by
  by_cases e : n = 7
  · subst e
    exact tl_chk_7 k hk
  · exact tl_chk_lo n (by omega) hn1 k hk
theorem tl_ex {n k : Nat} (hn1 : 1 ≤ n) (hn : n ≤ 7) (hk : k < tl_tt n) : ∃ sp T, tl_run 20 [(n, 0, 0, 1)] k [] = some sp ∧ tl_tk sp [] [] = some (T, [n - 1]) ∧ T.length = n ∧ (tl_nd T (n - 1)).2.2.2 = n ∧ ∃ R : Nat → Nat, (∀ j, j ≤ n - 1 → tl_rkP T R j) ∧ R (n - 1) = k := by
  have h := tl_chk_ok hn1 hn hk
  unfold tl_chk at h
  cases h1 : tl_run 20 [(n, 0, 0, 1)] k [] with
  | none =>
    rw [h1] at h
    exact (nomatch h)
  | some sp =>
    rw [h1] at h
    dsimp only at h
    unfold tl_chk2 at h
    cases h2 : tl_tk sp [] [] with
    | none =>
      rw [h2] at h
      exact (nomatch h)
    | some y =>
      obtain ⟨T, st⟩ := y
      rw [h2] at h
      dsimp only at h
      unfold tl_chk3 at h
      simp only [Bool.and_eq_true, decide_eq_true_eq, List.all_eq_true, List.mem_range] at h
      obtain ⟨⟨⟨⟨c1, c2⟩, c3⟩, c4⟩, c5⟩ := h
      subst c2
      exact ⟨sp, T, rfl, h2, c1, c3, fun i => (tl_nums T T []).getD i 0, fun j hj => c5 j (by omega), c4⟩
theorem tl_ex0 {n : Nat} {sp : List Nat} {T : List (Nat × Nat × Nat × Nat)} {st : List Nat} (hn1 : 1 ≤ n) (hn : n ≤ 7) (h1 : tl_run 20 [(n, 0, 0, 1)] 0 [] = some sp) (h2 : tl_tk sp [] [] = some (T, st)) :
    ∃ w, tl_wr T 20 [n - 1] [] = some w ∧ w.length = n ∧ w.getD (n - 1) 0 = (if n = 1 then 0 else 2) ∧ w.getD 0 0 = 0 := by
  have h := tl_chk_0 n (by omega) hn1
  unfold tl_chk0 at h
  rw [h1] at h
  dsimp only at h
  rw [h2] at h
  dsimp only at h
  cases h3 : tl_wr T 20 [n - 1] [] with
  | none =>
    rw [h3] at h
    exact (nomatch h)
  | some w =>
    rw [h3] at h
    simp only [Bool.and_eq_true, decide_eq_true_eq] at h
    obtain ⟨⟨c1, c2⟩, c3⟩ := h
    exact ⟨w, rfl, c1, c2, c3⟩
/-! ===== rules ===== -/
def tl_up (l : Nat → Nat) (k v : Nat) : Nat → Nat := fun j => if j = k then v else l j
theorem tl_ok_up {a : Nat → Int32} {l : Nat → Nat} {n k s : Nat} (h : tl_ok a l n) (hs : s < 16) : tl_ok (upd a k (nI s)) (tl_up l k s) n := by
  intro j hj
  unfold tl_up
  by_cases e : j = k
  · rw [e, pk_us, if_pos rfl]
    exact ⟨rfl, hs⟩
  · rw [pk_un e, if_neg e]
    exact h j hj
theorem tl_bA {post : Int32 → Prop} {p : Int32} {u : St2} (H0 : post 0) (H1 : post 1) : wpX_badAutomaton post u p :=
  br_c (fun _ => H1) (fun _ => br_c (fun _ => H0) (fun _ => H1))
theorem tl_bS {post : Int32 → Prop} {p : Int32} {u : St2} (H0 : post 0) (H1 : post 1) : wpX_badSet post u p :=
  br_c (fun _ => H1) (fun _ => br_c (fun _ => H0) (fun _ => H1))
theorem tl_bS_t {post : Int32 → Prop} {p : Int32} {u : St2} (h : p < 0 ∨ ¬ p ≤ 15) (H : post 1) : wpX_badSet post u p := by
  rcases h with z | z
  · exact br_t z H
  · exact br_c (fun _ => H) (fun _ => br_f z H)
theorem tl_bS_f {post : Int32 → Prop} {s : Nat} {u : St2} (h : s < 16) (H : post 0) : wpX_badSet post u (nI s) :=
  br_f (nI_pos (by omega)) (br_t (nI_le (b := 15) (by omega) (by omega)) H)
section
variable {l o t f : Nat → Nat} {C D : (Nat → Int32) → Prop} {T : List (Nat × Nat × Nat × Nat)} {st : List Nat} {post : Int32 → St2 → Prop} {p q r : Int32} {m x s : Nat} {fm fh fk fl ff fc ft : Int32} {a1 a2 a3 a4 a5 a6 a7 a8 a9 a10 a11 a12 a13 a14 a15 a16 a17 a18 a19 a20 a21 : Nat → Int32}
theorem tl_leafRule_bad (hb : (p < 0 ∨ ¬ p ≤ 1) ∨ (q < 0 ∨ 1 < q) ∨ (r < 0 ∨ ¬ r ≤ 15)) (H : post (-1) (fm, fh, fk, fl, ff, fc, ft, a1, a2, a3, a4, a5, a6, a7, a8, a9, a10, a11, a12, a13, a14, a15, a16, a17, a18, a19, a20, a21)) : wpX_leafRule post (fm, fh, fk, fl, ff, fc, ft, a1, a2, a3, a4, a5, a6, a7, a8, a9, a10, a11, a12, a13, a14, a15, a16, a17, a18, a19, a20, a21) p q r := by
  unfold wpX_leafRule
  dsimp only
  rcases hb with z | (z | z) | z
  · exact tl_bA_t z (br_f tl_one_ne H)
  · exact tl_bA (br_t rfl (br_t z H)) (br_f tl_one_ne H)
  · exact tl_bA (br_t rfl (br_c (fun _ => H) (fun _ => br_t z H))) (br_f tl_one_ne H)
  · exact tl_bA (br_t rfl (br_c (fun _ => H) (fun _ => br_c (fun _ => H) (fun _ => tl_bS_t z (br_f tl_one_ne H))))) (br_f tl_one_ne H)
theorem tl_oneRule_bad (hb : (p < 0 ∨ ¬ p ≤ 1) ∨ (q < 0 ∨ 3 < q) ∨ (r < 0 ∨ ¬ r ≤ 15)) (H : post (-1) (fm, fh, fk, fl, ff, fc, ft, a1, a2, a3, a4, a5, a6, a7, a8, a9, a10, a11, a12, a13, a14, a15, a16, a17, a18, a19, a20, a21)) : wpX_oneRule post (fm, fh, fk, fl, ff, fc, ft, a1, a2, a3, a4, a5, a6, a7, a8, a9, a10, a11, a12, a13, a14, a15, a16, a17, a18, a19, a20, a21) p q r := by
  unfold wpX_oneRule
  dsimp only
  rcases hb with z | (z | z) | z
  · exact tl_bA_t z (br_f tl_one_ne H)
  · exact tl_bA (br_t rfl (br_t z H)) (br_f tl_one_ne H)
  · exact tl_bA (br_t rfl (br_c (fun _ => H) (fun _ => br_t z H))) (br_f tl_one_ne H)
  · exact tl_bA (br_t rfl (br_c (fun _ => H) (fun _ => br_c (fun _ => H) (fun _ => tl_bS_t z (br_f tl_one_ne H))))) (br_f tl_one_ne H)
theorem tl_twoRule_bad (hb : (p < 0 ∨ ¬ p ≤ 1) ∨ (q < 0 ∨ ¬ q ≤ 15) ∨ (r < 0 ∨ ¬ r ≤ 15)) (H : post (-1) (fm, fh, fk, fl, ff, fc, ft, a1, a2, a3, a4, a5, a6, a7, a8, a9, a10, a11, a12, a13, a14, a15, a16, a17, a18, a19, a20, a21)) : wpX_twoRule post (fm, fh, fk, fl, ff, fc, ft, a1, a2, a3, a4, a5, a6, a7, a8, a9, a10, a11, a12, a13, a14, a15, a16, a17, a18, a19, a20, a21) p q r := by
  unfold wpX_twoRule
  dsimp only
  rcases hb with z | z | z
  · exact tl_bA_t z (br_f tl_one_ne H)
  · exact tl_bA (br_t rfl (tl_bS_t z (br_f tl_one_ne H))) (br_f tl_one_ne H)
  · exact tl_bA (br_t rfl (tl_bS (br_t rfl (tl_bS_t z (br_f tl_one_ne H))) (br_f tl_one_ne H))) (br_f tl_one_ne H)
theorem tl_finals_bad (hb : (p < 0 ∨ ¬ p ≤ 1) ∨ (r < 0 ∨ ¬ r ≤ 15)) (H : post (-1) (fm, fh, fk, fl, ff, fc, ft, a1, a2, a3, a4, a5, a6, a7, a8, a9, a10, a11, a12, a13, a14, a15, a16, a17, a18, a19, a20, a21)) : wpX_finals post (fm, fh, fk, fl, ff, fc, ft, a1, a2, a3, a4, a5, a6, a7, a8, a9, a10, a11, a12, a13, a14, a15, a16, a17, a18, a19, a20, a21) p r := by
  unfold wpX_finals
  dsimp only
  rcases hb with z | z
  · exact tl_bA_t z (br_f tl_one_ne H)
  · exact tl_bA (br_t rfl (tl_bS_t z (br_f tl_one_ne H))) (br_f tl_one_ne H)
theorem tl_leafRule (h : tl_I l o t f C T st (fm, fh, fk, fl, ff, fc, ft, a1, a2, a3, a4, a5, a6, a7, a8, a9, a10, a11, a12, a13, a14, a15, a16, a17, a18, a19, a20, a21)) (hm : m < 2) (hx : x < 2) (hs : s < 16) (H : ∀ (fm fh fk fl ff fc ft : Int32) (a1 a2 a3 a4 a5 a6 a7 a8 a9 a10 a11 a12 a13 a14 a15 a16 a17 a18 a19 a20 a21 : Nat → Int32), tl_I (tl_up l (2 * m + x) s) o t f D T st (fm, fh, fk, fl, ff, fc, ft, a1, a2, a3, a4, a5, a6, a7, a8, a9, a10, a11, a12, a13, a14, a15, a16, a17, a18, a19, a20, a21) → post (nI (l (2 * m + x))) (fm, fh, fk, fl, ff, fc, ft, a1, a2, a3, a4, a5, a6, a7, a8, a9, a10, a11, a12, a13, a14, a15, a16, a17, a18, a19, a20, a21)) : wpX_leafRule post (fm, fh, fk, fl, ff, fc, ft, a1, a2, a3, a4, a5, a6, a7, a8, a9, a10, a11, a12, a13, a14, a15, a16, a17, a18, a19, a20, a21) (nI m) (nI x) (nI s) := by
  unfold wpX_leafRule
  dsimp only
  obtain ⟨⟨g1, g2, g3, g4⟩, g5, g6, hh⟩ := h
  refine tl_bA_f hm (br_t rfl (br_f (nI_pos (by omega)) (br_f (nI_nlt (a := 1) (by omega) (by omega)) (tl_bS_f hs (br_t rfl ⟨pk_in (2 * m + x) 4 (by omega) (tl_lin 2 m x), nm_r (e' := nI (l (2 * m + x))) ((tl_at a1 _ (tl_lin 2 m x) (by omega)).trans (g1 _ (by omega)).1) ⟨pk_in (2 * m + x) 4 (by omega) (tl_lin 2 m x), nm_r (e' := upd a1 (2 * m + x) (nI s)) ?_ (H _ _ _ _ _ _ _ _ _ _ _ _ _ _ _ _ _ _ _ _ _ _ _ _ _ _ _ _ ⟨⟨tl_ok_up g1 hs, g2, g3, g4⟩, fun z => absurd rfl z, g6, hh⟩)⟩⟩)))))
  rw [pk_cl _ (tl_lin 2 m x) (by omega), tl_b8 s (by omega)]
theorem tl_oneRule (h : tl_I l o t f C T st (fm, fh, fk, fl, ff, fc, ft, a1, a2, a3, a4, a5, a6, a7, a8, a9, a10, a11, a12, a13, a14, a15, a16, a17, a18, a19, a20, a21)) (hm : m < 2) (hx : x < 4) (hs : s < 16) (H : ∀ (fm fh fk fl ff fc ft : Int32) (a1 a2 a3 a4 a5 a6 a7 a8 a9 a10 a11 a12 a13 a14 a15 a16 a17 a18 a19 a20 a21 : Nat → Int32), tl_I l (tl_up o (4 * m + x) s) t f D T st (fm, fh, fk, fl, ff, fc, ft, a1, a2, a3, a4, a5, a6, a7, a8, a9, a10, a11, a12, a13, a14, a15, a16, a17, a18, a19, a20, a21) → post (nI (o (4 * m + x))) (fm, fh, fk, fl, ff, fc, ft, a1, a2, a3, a4, a5, a6, a7, a8, a9, a10, a11, a12, a13, a14, a15, a16, a17, a18, a19, a20, a21)) : wpX_oneRule post (fm, fh, fk, fl, ff, fc, ft, a1, a2, a3, a4, a5, a6, a7, a8, a9, a10, a11, a12, a13, a14, a15, a16, a17, a18, a19, a20, a21) (nI m) (nI x) (nI s) := by
  unfold wpX_oneRule
  dsimp only
  obtain ⟨⟨g1, g2, g3, g4⟩, g5, g6, hh⟩ := h
  refine tl_bA_f hm (br_t rfl (br_f (nI_pos (by omega)) (br_f (nI_nlt (a := 3) (by omega) (by omega)) (tl_bS_f hs (br_t rfl ⟨pk_in (4 * m + x) 8 (by omega) (tl_lin 4 m x), nm_r (e' := nI (o (4 * m + x))) ((tl_at a2 _ (tl_lin 4 m x) (by omega)).trans (g2 _ (by omega)).1) ⟨pk_in (4 * m + x) 8 (by omega) (tl_lin 4 m x), nm_r (e' := upd a2 (4 * m + x) (nI s)) ?_ (H _ _ _ _ _ _ _ _ _ _ _ _ _ _ _ _ _ _ _ _ _ _ _ _ _ _ _ _ ⟨⟨g1, tl_ok_up g2 hs, g3, g4⟩, fun z => absurd rfl z, g6, hh⟩)⟩⟩)))))
  rw [pk_cl _ (tl_lin 4 m x) (by omega), tl_b8 s (by omega)]
theorem tl_twoRule (h : tl_I l o t f C T st (fm, fh, fk, fl, ff, fc, ft, a1, a2, a3, a4, a5, a6, a7, a8, a9, a10, a11, a12, a13, a14, a15, a16, a17, a18, a19, a20, a21)) (hm : m < 2) (hx : x < 16) (hs : s < 16) (H : ∀ (fm fh fk fl ff fc ft : Int32) (a1 a2 a3 a4 a5 a6 a7 a8 a9 a10 a11 a12 a13 a14 a15 a16 a17 a18 a19 a20 a21 : Nat → Int32), tl_I l o (tl_up t (16 * m + x) s) f D T st (fm, fh, fk, fl, ff, fc, ft, a1, a2, a3, a4, a5, a6, a7, a8, a9, a10, a11, a12, a13, a14, a15, a16, a17, a18, a19, a20, a21) → post (nI (t (16 * m + x))) (fm, fh, fk, fl, ff, fc, ft, a1, a2, a3, a4, a5, a6, a7, a8, a9, a10, a11, a12, a13, a14, a15, a16, a17, a18, a19, a20, a21)) : wpX_twoRule post (fm, fh, fk, fl, ff, fc, ft, a1, a2, a3, a4, a5, a6, a7, a8, a9, a10, a11, a12, a13, a14, a15, a16, a17, a18, a19, a20, a21) (nI m) (nI x) (nI s) := by
  unfold wpX_twoRule
  dsimp only
  obtain ⟨⟨g1, g2, g3, g4⟩, g5, g6, hh⟩ := h
  refine tl_bA_f hm (br_t rfl (tl_bS_f hx (br_t rfl (tl_bS_f hs (br_t rfl ⟨pk_in (16 * m + x) 32 (by omega) (tl_lin 16 m x), nm_r (e' := nI (t (16 * m + x))) ((tl_at a3 _ (tl_lin 16 m x) (by omega)).trans (g3 _ (by omega)).1) ⟨pk_in (16 * m + x) 32 (by omega) (tl_lin 16 m x), nm_r (e' := upd a3 (16 * m + x) (nI s)) ?_ (H _ _ _ _ _ _ _ _ _ _ _ _ _ _ _ _ _ _ _ _ _ _ _ _ _ _ _ _ ⟨⟨g1, g2, tl_ok_up g3 hs, g4⟩, fun z => absurd rfl z, g6, hh⟩)⟩⟩)))))
  rw [pk_cl _ (tl_lin 16 m x) (by omega), tl_b8 s (by omega)]
theorem tl_finals (h : tl_I l o t f C T st (fm, fh, fk, fl, ff, fc, ft, a1, a2, a3, a4, a5, a6, a7, a8, a9, a10, a11, a12, a13, a14, a15, a16, a17, a18, a19, a20, a21)) (hm : m < 2) (hs : s < 16) (H : ∀ (fm fh fk fl ff fc ft : Int32) (a1 a2 a3 a4 a5 a6 a7 a8 a9 a10 a11 a12 a13 a14 a15 a16 a17 a18 a19 a20 a21 : Nat → Int32), tl_I l o t (tl_up f m s) C T st (fm, fh, fk, fl, ff, fc, ft, a1, a2, a3, a4, a5, a6, a7, a8, a9, a10, a11, a12, a13, a14, a15, a16, a17, a18, a19, a20, a21) → post (nI (f m)) (fm, fh, fk, fl, ff, fc, ft, a1, a2, a3, a4, a5, a6, a7, a8, a9, a10, a11, a12, a13, a14, a15, a16, a17, a18, a19, a20, a21)) : wpX_finals post (fm, fh, fk, fl, ff, fc, ft, a1, a2, a3, a4, a5, a6, a7, a8, a9, a10, a11, a12, a13, a14, a15, a16, a17, a18, a19, a20, a21) (nI m) (nI s) := by
  unfold wpX_finals
  dsimp only
  obtain ⟨⟨g1, g2, g3, g4⟩, g5, g6, hh⟩ := h
  refine tl_bA_f hm (br_t rfl (tl_bS_f hs (br_t rfl ⟨pk_in m 2 hm, nm_r (e' := nI (f m)) ((tl_at a4 _ rfl (by omega)).trans (g4 _ hm).1) ⟨pk_in m 2 hm, nm_r (e' := upd a4 m (nI s)) ?_ (H _ _ _ _ _ _ _ _ _ _ _ _ _ _ _ _ _ _ _ _ _ _ _ _ _ _ _ _ ⟨⟨g1, g2, g3, tl_ok_up g4 hs⟩, g5, g6, hh⟩)⟩⟩)))
  rw [nI_clamp (by omega), tl_b8 s (by omega)]
end
end
section
/-! ===== arguments, good and bad ===== -/
def tl_G (b x : Int32) (N : Nat) : Prop := (b = 1 ∧ ∃ j, j < N ∧ x = nI j) ∨ (b = 0 ∧ (x < 0 ∨ nI N ≤ x))
theorem tl_Gle {x : Int32} {N : Nat} (hN : N + 1 < 2 ^ 31) (h : x < 0 ∨ nI (N + 1) ≤ x) : x < 0 ∨ ¬ x ≤ nI N := by
  rcases h with h | h
  · exact Or.inl h
  · refine Or.inr (fun h2 => ?_)
    have k1 := Int32.le_iff_toInt_le.mp h
    have k2 := Int32.le_iff_toInt_le.mp h2
    rw [nI_toInt hN] at k1
    rw [nI_toInt (by omega)] at k2
    omega
theorem tl_Glt {x : Int32} {N : Nat} (hN : N + 1 < 2 ^ 31) (h : x < 0 ∨ nI (N + 1) ≤ x) : x < 0 ∨ nI N < x := by
  rcases h with h | h
  · exact Or.inl h
  · refine Or.inr (Int32.lt_iff_toInt_lt.mpr ?_)
    have k1 := Int32.le_iff_toInt_le.mp h
    rw [nI_toInt hN] at k1
    rw [nI_toInt (by omega)]
    omega
theorem tl_Gno {x : Int32} {N j : Nat} (hN : N < 2 ^ 31) (h : x < 0 ∨ nI N ≤ x) (hj : j < N) : ¬ x = nI j := by
  intro e
  subst e
  rcases h with h | h
  · exact nI_pos (by omega) h
  · exact nI_ge hj hN h
theorem tl_inj {a b : Nat} (ha : a < 2 ^ 31) (hb : b < 2 ^ 31) (h : nI a = nI b) : a = b := (nI_eq ha hb).mp h
/-! ===== what the rules come to ===== -/
def tl_isL (x0 x1 x3 : Int32) (l : Nat → Nat) : Prop :=
  (∃ m x s, m < 2 ∧ x < 2 ∧ s < 16 ∧ x0 = nI m ∧ x1 = nI x ∧ x3 = nI s ∧ l = tl_up tl_z (2 * m + x) s) ∨ (l = tl_z ∧ ∀ m x s, m < 2 → x < 2 → s < 16 → x0 = nI m → x1 = nI x → ¬ x3 = nI s)
def tl_isO (x0 x2 x3 : Int32) (o : Nat → Nat) : Prop :=
  (∃ m x s, m < 2 ∧ x < 4 ∧ s < 16 ∧ x0 = nI m ∧ x2 = nI x ∧ x3 = nI s ∧ o = tl_up tl_z (4 * m + x) s) ∨ (o = tl_z ∧ ∀ m x s, m < 2 → x < 4 → s < 16 → x0 = nI m → x2 = nI x → ¬ x3 = nI s)
def tl_isF (x0 x3 : Int32) (f : Nat → Nat) : Prop :=
  (∃ m s, m < 2 ∧ s < 16 ∧ x0 = nI m ∧ x3 = nI s ∧ f = tl_up tl_z m s) ∨ (f = tl_z ∧ ∀ m s, m < 2 → s < 16 → x0 = nI m → ¬ x3 = nI s)
def tl_isW (x0 x1 x3 : Int32) (w : Nat) : Prop :=
  (∃ m x s, m < 2 ∧ x < 2 ∧ s < 16 ∧ x0 = nI m ∧ x1 = nI x ∧ x3 = nI s ∧ w = s) ∨ (w = 0 ∧ ∀ m x s, m < 2 → x < 2 → s < 16 → x0 = nI m → x1 = nI x → ¬ x3 = nI s)
def tl_hf (o l : Nat → Nat) (m x : Nat) : Nat := if m = 0 then tl_OP o (tl_LP l x) % 16 else tl_OP o (tl_LP l x) / 16
def tl_F5 (l o f : Nat → Nat) (x0 x1 x2 x3 : Int32) (w : Nat) : Prop :=
  w < 16 ∧
  (∀ m x, m < 2 → x < 2 → x0 = nI m → x1 = nI x → l (2 * m + x) = w ∧ f m = w) ∧
  (∀ x, x < 2 → x1 = nI x → tl_LP l (1 - x) = 0) ∧
  (∀ m, m < 2 → x0 = nI m → tl_n1 (tl_is f m) l = if w = 0 then 0 else 1) ∧
  tl_n1 (tl_is f 2) l = 0 ∧ tl_n1 (tl_is f 5) l = (if w = 0 then 2 else 1) ∧
  (∀ m x p s, m < 2 → x < 2 → p < 4 → s < 16 → x0 = nI m → x1 = nI x → x2 = nI p → x3 = nI s → s / 2 ^ p % 2 = 1 → tl_hf o l m x = s)
theorem tl_d1 : ∀ m, m < 2 → ∀ x, x < 2 → ∀ s, s < 16 → tl_LP (tl_up tl_z (2 * m + x) s) (1 - x) = 0 ∧ tl_n1 (tl_is (tl_up tl_z m s) m) (tl_up tl_z (2 * m + x) s) = (if s = 0 then 0 else 1) ∧
    tl_n1 (tl_is (tl_up tl_z m s) 2) (tl_up tl_z (2 * m + x) s) = 0 ∧ tl_n1 (tl_is (tl_up tl_z m s) 5) (tl_up tl_z (2 * m + x) s) = (if s = 0 then 2 else 1) := by decide +kernel
theorem tl_d2 : ∀ m, m < 2 → ∀ x, x < 2 → ∀ p, p < 4 → ∀ s, s < 16 → s / 2 ^ p % 2 = 1 → tl_hf (tl_up tl_z (4 * m + p) s) (tl_up tl_z (2 * m + x) s) m x = s := by decide +kernel
theorem tl_is0 (f : Nat → Nat) (κ : Nat) : tl_is f κ 0 = tl_io κ false false := by
  have e0 : decide ((0 % 16) &&& f 0 ≠ 0) = false := decide_eq_false (fun c => c (Nat.zero_and _))
  have e1 : decide ((0 / 16) &&& f 1 ≠ 0) = false := decide_eq_false (fun c => c (Nat.zero_and _))
  unfold tl_is
  rw [e0, e1]
theorem tl_n1z (f : Nat → Nat) (κ : Nat) : tl_n1 (tl_is f κ) tl_z = (if tl_io κ false false = true then 1 else 0) + (if tl_io κ false false = true then 1 else 0) := by
  show (if tl_is f κ 0 = true then 1 else 0) + (if tl_is f κ 0 = true then 1 else 0) = _
  rw [tl_is0]
theorem tl_F5_of {l o f : Nat → Nat} {x0 x1 x2 x3 : Int32} {w : Nat} (hL : tl_isL x0 x1 x3 l) (hO : tl_isO x0 x2 x3 o) (hF : tl_isF x0 x3 f) (hW : tl_isW x0 x1 x3 w) : tl_F5 l o f x0 x1 x2 x3 w := by
  rcases hL with ⟨m, x, s, hm, hx, hs, e0, e1, e3, el⟩ | ⟨el, no⟩
  · have ew : w = s := by
      rcases hW with ⟨m', x', s', _, _, hs', _, _, k3, k⟩ | ⟨_, k⟩
      · rw [k]
        exact tl_inj (by omega) (by omega) (k3.symm.trans e3)
      · exact absurd e3 (k m x s hm hx hs e0 e1)
    have ef : f = tl_up tl_z m s := by
      rcases hF with ⟨m', s', hm', hs', k0, k3, k⟩ | ⟨_, k⟩
      · rw [k, tl_inj (by omega) (by omega) (k0.symm.trans e0), tl_inj (by omega) (by omega) (k3.symm.trans e3)]
      · exact absurd e3 (k m s hm hs e0)
    subst ew ef el
    obtain ⟨d1, d2, d3, d4⟩ := tl_d1 m hm x hx w hs
    refine ⟨hs, ?_, ?_, ?_, d3, d4, ?_⟩
    · intro m' x' hm' hx' k0 k1
      rw [tl_inj (by omega) (by omega) (k0.symm.trans e0), tl_inj (by omega) (by omega) (k1.symm.trans e1)]
      exact ⟨if_pos rfl, if_pos rfl⟩
    · intro x' hx' k1
      rw [tl_inj (by omega) (by omega) (k1.symm.trans e1)]
      exact d1
    · intro m' hm' k0
      rw [tl_inj (by omega) (by omega) (k0.symm.trans e0)]
      exact d2
    · intro m' x' p s' hm' hx' hp hs' k0 k1 k2 k3 kb
      have q0 := tl_inj (by omega) (by omega) (k0.symm.trans e0)
      have q1 := tl_inj (by omega) (by omega) (k1.symm.trans e1)
      have q3 := tl_inj (by omega) (by omega) (k3.symm.trans e3)
      subst q0 q1 q3
      rcases hO with ⟨m2, p2, s2, hm2, hp2, hs2, j0, j2, j3, j⟩ | ⟨_, j⟩
      · rw [j, tl_inj (by omega) (by omega) (j0.symm.trans k0), tl_inj (by omega) (by omega) (j2.symm.trans k2), tl_inj (by omega) (by omega) (j3.symm.trans k3)]
        exact tl_d2 _ hm' _ hx' p hp _ hs' kb
      · exact absurd k3 (j _ p _ hm' hp hs' k0 k2)
  · have ew : w = 0 := by
      rcases hW with ⟨m', x', s', hm', hx', hs', k0, k1, k3, _⟩ | ⟨k, _⟩
      · exact absurd k3 (no m' x' s' hm' hx' hs' k0 k1)
      · exact k
    subst ew el
    refine ⟨by decide, ?_, fun _ _ _ => rfl, ?_, ?_, ?_, ?_⟩
    · intro m x hm hx k0 k1
      refine ⟨rfl, ?_⟩
      rcases hF with ⟨m', s', hm', hs', j0, j3, j⟩ | ⟨j, _⟩
      · exact absurd j3 (no m' x s' hm' hx hs' j0 k1)
      · rw [j]
        rfl
    · intro m hm _
      rw [tl_n1z]
      have hm : m = 0 ∨ m = 1 := by omega
      rcases hm with rfl | rfl <;> rfl
    · rw [tl_n1z]
      rfl
    · rw [tl_n1z]
      rfl
    · intro m x p s hm hx hp hs k0 k1 k2 k3 _
      exact absurd k3 (no m x s hm hx hs k0 k1)
/-! ===== four trees and their certificates ===== -/
def tl_T1 (x : Nat) : List (Nat × Nat × Nat × Nat) := [(x, 0, 0, 1)]
def tl_T2 (x : Nat) : List (Nat × Nat × Nat × Nat) := [(x, 0, 0, 1), (2, 0, 0, 2)]
def tl_T3 (x : Nat) : List (Nat × Nat × Nat × Nat) := [(x, 0, 0, 1), (2, 0, 0, 2), (1 - x, 0, 0, 1)]
def tl_T4 (x : Nat) : List (Nat × Nat × Nat × Nat) := [(x, 0, 0, 1), (2, 0, 0, 2), (1 - x, 0, 0, 1), (3, 1, 2, 4)]
def tl_R4 (x : Nat) (k : Nat) : Nat := [x, x, 1 - x, 10 + (x * 2 + (1 - x))].getD k 0
theorem tl_rk1 {x : Nat} (hx : x < 2) : ∀ k, k ≤ 0 → tl_rkP (tl_T1 x) (tl_R4 x) k := by
  have h : x = 0 ∨ x = 1 := by omega
  rcases h with rfl | rfl <;> decide
theorem tl_rk3 {x : Nat} (hx : x < 2) : ∀ k, k ≤ 2 → tl_rkP (tl_T3 x) (tl_R4 x) k := by
  have h : x = 0 ∨ x = 1 := by omega
  rcases h with rfl | rfl <;> decide
theorem tl_rk4 {x : Nat} (hx : x < 2) : ∀ k, k ≤ 3 → tl_rkP (tl_T4 x) (tl_R4 x) k := by
  have h : x = 0 ∨ x = 1 := by omega
  rcases h with rfl | rfl <;> decide
theorem tl_w1 {x : Nat} (hx : x < 2) : tl_wr (tl_T1 x) 20 [0] [] = some [x] := by
  have h : x = 0 ∨ x = 1 := by omega
  rcases h with rfl | rfl <;> decide
theorem tl_w4 {x : Nat} (hx : x < 2) : tl_wr (tl_T4 x) 20 [3] [] = some [1 - x, x, 2, 3] := by
  have h : x = 0 ∨ x = 1 := by omega
  rcases h with rfl | rfl <;> decide
def tl_P4 (l o t : Nat → Nat) (x : Nat) : Nat → Nat
  | 0 => tl_LP l x
  | 1 => tl_OP o (tl_LP l x)
  | 2 => tl_LP l (1 - x)
  | _ => tl_TP t (tl_OP o (tl_LP l x)) (tl_LP l (1 - x))
section
variable {l o t : Nat → Nat} {x : Nat}
theorem tl_pr0 {T : List (Nat × Nat × Nat × Nat)} (hl : ∀ j, j < 4 → l j < 16) (hx : x < 2) (h : tl_nd T 0 = (x, 0, 0, 1)) : tl_prP l o t T (tl_P4 l o t x) 0 := by
  unfold tl_prP
  rw [h]
  exact ⟨tl_LP_lt hl hx, fun _ => rfl, fun z => absurd z (by show ¬ x = 2; omega), fun z => absurd z (by show ¬ x = 3; omega)⟩
theorem tl_pr1 {T : List (Nat × Nat × Nat × Nat)} (ho : ∀ j, j < 8 → o j < 16) (h : tl_nd T 1 = (2, 0, 0, 2)) : tl_prP l o t T (tl_P4 l o t x) 1 := by
  unfold tl_prP
  rw [h]
  exact ⟨tl_OP_lt ho _, fun z => absurd z (by decide), fun _ => ⟨by decide, rfl⟩, fun z => absurd z (by decide)⟩
theorem tl_pr2 {T : List (Nat × Nat × Nat × Nat)} (hl : ∀ j, j < 4 → l j < 16) (hx : x < 2) (h : tl_nd T 2 = (1 - x, 0, 0, 1)) : tl_prP l o t T (tl_P4 l o t x) 2 := by
  unfold tl_prP
  rw [h]
  exact ⟨tl_LP_lt hl (by omega), fun _ => rfl, fun z => absurd z (by show ¬ 1 - x = 2; omega), fun z => absurd z (by show ¬ 1 - x = 3; omega)⟩
theorem tl_pr3 {T : List (Nat × Nat × Nat × Nat)} (ht : ∀ j, j < 32 → t j < 16) (h : tl_nd T 3 = (3, 1, 2, 4)) : tl_prP l o t T (tl_P4 l o t x) 3 := by
  unfold tl_prP
  rw [h]
  exact ⟨tl_TP_lt ht _ _, fun z => absurd z (by decide), fun z => absurd z (by decide), fun _ => ⟨by decide, by decide, rfl⟩⟩
theorem tl_cr1 (hl : ∀ j, j < 4 → l j < 16) (hx : x < 2) : ∀ k, k ≤ 0 → tl_prP l o t (tl_T1 x) (tl_P4 l o t x) k := by
  intro k hk
  have e : k = 0 := by omega
  subst e
  exact tl_pr0 hl hx rfl
theorem tl_cr2 (hl : ∀ j, j < 4 → l j < 16) (ho : ∀ j, j < 8 → o j < 16) (hx : x < 2) : ∀ k, k ≤ 1 → tl_prP l o t (tl_T2 x) (tl_P4 l o t x) k := by
  intro k hk
  have e : k = 0 ∨ k = 1 := by omega
  rcases e with rfl | rfl
  · exact tl_pr0 hl hx rfl
  · exact tl_pr1 ho rfl
theorem tl_cr4 (hl : ∀ j, j < 4 → l j < 16) (ho : ∀ j, j < 8 → o j < 16) (ht : ∀ j, j < 32 → t j < 16) (hx : x < 2) : ∀ k, k ≤ 3 → tl_prP l o t (tl_T4 x) (tl_P4 l o t x) k := by
  intro k hk
  have e : k = 0 ∨ k = 1 ∨ k = 2 ∨ k = 3 := by omega
  rcases e with rfl | rfl | rfl | rfl
  · exact tl_pr0 hl hx rfl
  · exact tl_pr1 ho rfl
  · exact tl_pr2 hl hx rfl
  · exact tl_pr3 ht rfl
end
theorem tl_o2_0 {t : Nat → Nat} {m a : Nat} : ∀ k, tl_o2 t m a 0 k = 0
  | 0 => rfl
  | k + 1 => by
    show (if a / 2 ^ (k % 4) % 2 = 1 ∧ 0 / 2 ^ (k / 4) % 2 = 1 then tl_o2 t m a 0 k ||| t (16 * m + k) else tl_o2 t m a 0 k) = 0
    rw [if_neg (fun z => absurd z.2 (by rw [Nat.zero_div]; decide))]
    exact tl_o2_0 k
theorem tl_TP0 {t : Nat → Nat} {a : Nat} : tl_TP t a 0 = 0 := by
  show tl_o2 t 0 (a % 16) 0 16 + 16 * tl_o2 t 1 (a / 16) 0 16 = 0
  rw [tl_o2_0, tl_o2_0]
def tl_pop (s : Nat) : Nat → Nat
  | 0 => 0
  | q + 1 => tl_pop s q + s / 2 ^ q % 2
theorem tl_rs_pop {s x : Nat} {w : Nat → Int32} (h : ∀ q, q < 4 → w (4 * x + q) = nI (s / 2 ^ q % 2)) : ∀ q, q ≤ 4 → tl_rs s w x q = nI (tl_pop s q)
  | 0, _ => rfl
  | q + 1, hq => by
    show (if s / 2 ^ q % 2 = 1 then tl_rs s w x q + w (4 * x + q) else tl_rs s w x q) = nI (tl_pop s q + s / 2 ^ q % 2)
    rw [tl_rs_pop h q (by omega), h q (by omega), nI_add]
    by_cases e : s / 2 ^ q % 2 = 1
    · rw [if_pos e]
    · have e0 : s / 2 ^ q % 2 = 0 := by
        have := Nat.mod_lt (s / 2 ^ q) (show 0 < 2 by decide)
        omega
      rw [if_neg e, e0, Nat.add_zero]
theorem tl_rs_0 {x : Nat} {w : Nat → Int32} : ∀ q, tl_rs 0 w x q = 0
  | 0 => rfl
  | q + 1 => by
    show (if 0 / 2 ^ q % 2 = 1 then tl_rs 0 w x q + w (4 * x + q) else tl_rs 0 w x q) = 0
    rw [if_neg (by rw [Nat.zero_div]; decide)]
    exact tl_rs_0 q
theorem tl_I_mono {l o t f : Nat → Nat} {C D : (Nat → Int32) → Prop} {T : List (Nat × Nat × Nat × Nat)} {st : List Nat} {fm fh fk fl ff fc ft : Int32} {a1 a2 a3 a4 a5 a6 a7 a8 a9 a10 a11 a12 a13 a14 a15 a16 a17 a18 a19 a20 a21 : Nat → Int32} (hCD : ∀ a, C a → D a) (h : tl_I l o t f C T st (fm, fh, fk, fl, ff, fc, ft, a1, a2, a3, a4, a5, a6, a7, a8, a9, a10, a11, a12, a13, a14, a15, a16, a17, a18, a19, a20, a21)) : tl_I l o t f D T st (fm, fh, fk, fl, ff, fc, ft, a1, a2, a3, a4, a5, a6, a7, a8, a9, a10, a11, a12, a13, a14, a15, a16, a17, a18, a19, a20, a21) := by
  obtain ⟨g1, g2, g3, hh⟩ := h
  exact ⟨g1, fun z => hCD _ (g2 z), g3, hh⟩
theorem tl_I_au {l o t f : Nat → Nat} {C : (Nat → Int32) → Prop} {T : List (Nat × Nat × Nat × Nat)} {st : List Nat} {fm fh fk fl ff fc ft : Int32} {a1 a2 a3 a4 a5 a6 a7 a8 a9 a10 a11 a12 a13 a14 a15 a16 a17 a18 a19 a20 a21 : Nat → Int32} (h : tl_I l o t f C T st (fm, fh, fk, fl, ff, fc, ft, a1, a2, a3, a4, a5, a6, a7, a8, a9, a10, a11, a12, a13, a14, a15, a16, a17, a18, a19, a20, a21)) : (∀ j, j < 4 → l j < 16) ∧ (∀ j, j < 8 → o j < 16) ∧ (∀ j, j < 32 → t j < 16) := by
  obtain ⟨g1, g2, g3, hh⟩ := h
  exact ⟨tl_ok_lt g1.1, tl_ok_lt g1.2.1, tl_ok_lt g1.2.2.1⟩
end
section
/-! ===== the law, from its end: behind the rules ===== -/
def tl_X21 (l o : Nat → Nat) (x0 x1 x21 : Int32) : Prop := x21 = 0 ∨ ∃ m x s, m < 2 ∧ x < 2 ∧ x0 = nI m ∧ x1 = nI x ∧ x21 = nI s ∧ tl_hf o l m x = s
def tl_Pi (x16 x1 : Int32) (T : List (Nat × Nat × Nat × Nat)) (st : List Nat) (U : Nat → List (Nat × Nat × Nat × Nat)) (top : List Nat) : Prop :=
  (x16 = 0 ∧ T = [] ∧ st = []) ∨ (∃ x, x < 2 ∧ x16 = 1 ∧ x1 = nI x ∧ T = U x ∧ st = top)
theorem tl_Gg {b x : Int32} {N : Nat} (h : tl_G b x N) (n : ¬ b = 0) : ∃ j, j < N ∧ x = nI j := by
  rcases h with ⟨_, k⟩ | ⟨e, _⟩
  · exact k
  · exact absurd e n
theorem tl_n1of {b : Int32} (e : b = 1) : ¬ b = 0 := by
  rw [e]
  exact tl_one_ne
section
variable {post : Int32 → St0 → Prop} {mc ms kc ks : Nat} {x0 x1 x2 x3 x7 x8 x16 x17 x18 x19 x20 x21 z0 z1 : Int32} {l o t f : Nat → Nat} {T : List (Nat × Nat × Nat × Nat)} {st : List Nat} {w : Nat} {fm fh fk fl ff fc ft : Int32} {a1 a2 a3 a4 a5 a6 a7 a8 a9 a10 a11 a12 a13 a14 a15 a16 a17 a18 a19 a20 a21 : Nat → Int32}
theorem tl_L1158 (hp : post 1 ()) (h : tl_I l o t f (tl_C1 l) [] [] (fm, fh, fk, fl, ff, fc, ft, a1, a2, a3, a4, a5, a6, a7, a8, a9, a10, a11, a12, a13, a14, a15, a16, a17, a18, a19, a20, a21)) (hz : z1 = z0) (hx : tl_X21 l o x0 x1 x21) : wL_lawOf_1158 post mc ms x0 x1 x21 z0 z1 kc ks fm fh fk fl ff fc ft a1 a2 a3 a4 a5 a6 a7 a8 a9 a10 a11 a12 a13 a14 a15 a16 a17 a18 a19 a20 a21 := by
  unfold wL_lawOf_1158
  refine br_t hz ?_
  rcases hx with e | ⟨m, x, s, hm, hx, e0, e1, e21, es⟩
  · exact br_t e hp
  · subst e0 e1
    refine br_c (fun _ => hp) (fun _ => ?_)
    refine tl_leaf h (by decide) hx (fun fm fh fk fl ff fc ft a1 a2 a3 a4 a5 a6 a7 a8 a9 a10 a11 a12 a13 a14 a15 a16 a17 a18 a19 a20 a21 h => br_t rfl ?_)
    have h : tl_I l o t f (tl_C1 l) (tl_T1 x) [0] (fm, fh, fk, fl, ff, fc, ft, a1, a2, a3, a4, a5, a6, a7, a8, a9, a10, a11, a12, a13, a14, a15, a16, a17, a18, a19, a20, a21) := h
    refine tl_one h (show 1 < 12 by decide) (show 1 + 1 ≤ 12 by decide) (fun fm fh fk fl ff fc ft a1 a2 a3 a4 a5 a6 a7 a8 a9 a10 a11 a12 a13 a14 a15 a16 a17 a18 a19 a20 a21 h => br_t rfl ?_)
    have h : tl_I l o t f (tl_C1 l) (tl_T2 x) [1] (fm, fh, fk, fl, ff, fc, ft, a1, a2, a3, a4, a5, a6, a7, a8, a9, a10, a11, a12, a13, a14, a15, a16, a17, a18, a19, a20, a21) := h
    have hb := tl_I_au h
    refine tl_states h hm (tl_cr2 (t := t) hb.1 hb.2.1 hx) (fun fm fh fk fl ff fc ft a1 a2 a3 a4 a5 a6 a7 a8 a9 a10 a11 a12 a13 a14 a15 a16 a17 a18 a19 a20 a21 h => br_t ?_ hp)
    rw [e21, ← es]
    rfl
theorem tl_L1092 (hp : post 1 ()) (h : tl_I l o t f (tl_C1 l) T st (fm, fh, fk, fl, ff, fc, ft, a1, a2, a3, a4, a5, a6, a7, a8, a9, a10, a11, a12, a13, a14, a15, a16, a17, a18, a19, a20, a21)) (hst : (x16 = 0 ∧ st = []) ∨ (x16 = 1 ∧ ∃ y, st = [y])) (hx : tl_X21 l o x0 x1 x21) : wL_lawOf_1092 post mc ms x0 x1 x16 x21 kc ks fm fh fk fl ff fc ft a1 a2 a3 a4 a5 a6 a7 a8 a9 a10 a11 a12 a13 a14 a15 a16 a17 a18 a19 a20 a21 := by
  unfold wL_lawOf_1092
  refine tl_leaf_bad (Or.inr (by decide)) (br_t rfl ?_)
  refine tl_load_bad (Or.inl (Or.inr (by decide))) (br_t rfl ?_)
  refine tl_load_bad (Or.inr (Or.inr (by decide))) (br_t rfl ?_)
  refine tl_load1_no h (fun fm fh fk fl ff fc ft a1 a2 a3 a4 a5 a6 a7 a8 a9 a10 a11 a12 a13 a14 a15 a16 a17 a18 a19 a20 a21 h => br_t rfl ?_)
  refine tl_discard h (fun fm fh fk fl ff fc ft a1 a2 a3 a4 a5 a6 a7 a8 a9 a10 a11 a12 a13 a14 a15 a16 a17 a18 a19 a20 a21 k => ?_)
  rcases hst with ⟨e, e2⟩ | ⟨e, y, e2⟩
  · subst e2
    exact br_t e (tl_L1158 hp k rfl hx)
  · subst e2
    exact br_f (tl_n1of e) (tl_L1158 hp k rfl hx)
theorem tl_L1087 (hp : post 1 ()) (h : tl_I l o t f (tl_C1 l) T st (fm, fh, fk, fl, ff, fc, ft, a1, a2, a3, a4, a5, a6, a7, a8, a9, a10, a11, a12, a13, a14, a15, a16, a17, a18, a19, a20, a21)) (hz : z1 = z0) (hst : (x16 = 0 ∧ st = []) ∨ (x16 = 1 ∧ ∃ y, st = [y])) (hx : tl_X21 l o x0 x1 x21) : wL_lawOf_1087 post mc ms x0 x1 x16 x21 z0 z1 kc ks fm fh fk fl ff fc ft a1 a2 a3 a4 a5 a6 a7 a8 a9 a10 a11 a12 a13 a14 a15 a16 a17 a18 a19 a20 a21 := by
  unfold wL_lawOf_1087
  exact br_t hz (tl_L1092 hp h hst hx)
theorem tl_L1046 (hp : post 1 ()) (hG7 : tl_G x7 x0 2) (hF : tl_F5 l o f x0 x1 x2 x3 w) (h : tl_I l o t f (tl_C1 l) T st (fm, fh, fk, fl, ff, fc, ft, a1, a2, a3, a4, a5, a6, a7, a8, a9, a10, a11, a12, a13, a14, a15, a16, a17, a18, a19, a20, a21)) (hT : tl_Pi x16 x1 T st tl_T4 [3]) (hx : tl_X21 l o x0 x1 z0) : wL_lawOf_1046 post mc ms x0 x1 x7 x16 z0 kc ks fm fh fk fl ff fc ft a1 a2 a3 a4 a5 a6 a7 a8 a9 a10 a11 a12 a13 a14 a15 a16 a17 a18 a19 a20 a21 := by
  unfold wL_lawOf_1046
  rcases hT with ⟨e, eT, es⟩ | ⟨x, hxx, e, e1, eT, es⟩
  · exact br_t e (tl_L1092 hp h (Or.inl ⟨e, es⟩) hx)
  · subst e1 eT es
    refine br_f (tl_n1of e) ?_
    have hb := tl_I_au h
    refine tl_rank h (tl_rk4 hxx) (fun fm fh fk fl ff fc ft a1 a2 a3 a4 a5 a6 a7 a8 a9 a10 a11 a12 a13 a14 a15 a16 a17 a18 a19 a20 a21 h => br_t ?_ ?_)
    · have c : x = 0 ∨ x = 1 := by omega
      rcases c with rfl | rfl <;> decide
    · rcases hG7 with ⟨e7, m, hm, e0⟩ | ⟨e7, hb7⟩
      · subst e0
        refine tl_states h hm (tl_cr4 hb.1 hb.2.1 hb.2.2 hxx) (fun fm fh fk fl ff fc ft a1 a2 a3 a4 a5 a6 a7 a8 a9 a10 a11 a12 a13 a14 a15 a16 a17 a18 a19 a20 a21 h => br_f (tl_n1of e7) ?_)
        refine tl_L1087 hp h ?_ (Or.inr ⟨e, 3, rfl⟩) hx
        have k : tl_P4 l o t x 3 = 0 := by
          show tl_TP t (tl_OP o (tl_LP l x)) (tl_LP l (1 - x)) = 0
          rw [hF.2.2.1 x hxx rfl, tl_TP0]
        rw [k]
        split <;> rfl
      · exact tl_states_bad (tl_Gle (N := 1) (by decide) hb7) (br_t e7 (tl_L1087 hp h rfl (Or.inr ⟨e, 3, rfl⟩) hx))
theorem tl_L1012 (hp : post 1 ()) (hG7 : tl_G x7 x0 2) (hG8 : tl_G x8 x3 16) (hG16 : tl_G x16 x1 2) (hG17 : tl_G x17 x2 4) (hF : tl_F5 l o f x0 x1 x2 x3 w) (h : tl_I l o t f (tl_C1 l) T st (fm, fh, fk, fl, ff, fc, ft, a1, a2, a3, a4, a5, a6, a7, a8, a9, a10, a11, a12, a13, a14, a15, a16, a17, a18, a19, a20, a21)) (hT : tl_Pi x16 x1 T st tl_T4 [3]) : wL_lawOf_1012 post mc ms x0 x1 x2 x3 x7 x8 x16 x17 kc ks fm fh fk fl ff fc ft a1 a2 a3 a4 a5 a6 a7 a8 a9 a10 a11 a12 a13 a14 a15 a16 a17 a18 a19 a20 a21 := by
  unfold wL_lawOf_1012
  have A : wL_lawOf_1045 post mc ms x0 x1 x7 x16 kc ks fm fh fk fl ff fc ft a1 a2 a3 a4 a5 a6 a7 a8 a9 a10 a11 a12 a13 a14 a15 a16 a17 a18 a19 a20 a21 := by
    unfold wL_lawOf_1045
    exact tl_L1046 hp hG7 hF h hT (Or.inl rfl)
  refine br_c (fun _ => A) (fun n7 => br_c (fun _ => A) (fun n16 => br_c (fun _ => A) (fun n8 => br_c (fun _ => A) (fun n17 => br_c (fun hb => ?_) (fun _ => A)))))
  obtain ⟨m, hm, e0⟩ := tl_Gg hG7 n7
  obtain ⟨x, hx, e1⟩ := tl_Gg hG16 n16
  obtain ⟨s, hs, e3⟩ := tl_Gg hG8 n8
  obtain ⟨p, hpp, e2⟩ := tl_Gg hG17 n17
  refine tl_L1046 hp hG7 hF h hT (Or.inr ⟨m, x, s, hm, hx, e0, e1, e3, ?_⟩)
  rw [e3, e2, tl_bit (by omega) (by omega)] at hb
  exact hF.2.2.2.2.2.2 m x p s hm hx hpp hs e0 e1 e2 e3 (tl_inj (b := 1) (tl_lt2 _) (by decide) hb)
theorem tl_L916 (hp : post 1 ()) (hG7 : tl_G x7 x0 2) (hG8 : tl_G x8 x3 16) (hG16 : tl_G x16 x1 2) (hG17 : tl_G x17 x2 4) (hF : tl_F5 l o f x0 x1 x2 x3 w) (h : tl_I l o t f (tl_C1 l) T st (fm, fh, fk, fl, ff, fc, ft, a1, a2, a3, a4, a5, a6, a7, a8, a9, a10, a11, a12, a13, a14, a15, a16, a17, a18, a19, a20, a21)) (hT : tl_Pi x16 x1 T st tl_T1 [0]) (hz : z1 = z0) : wL_lawOf_916 post mc ms x0 x1 x2 x3 x7 x8 x16 x17 z0 z1 kc ks fm fh fk fl ff fc ft a1 a2 a3 a4 a5 a6 a7 a8 a9 a10 a11 a12 a13 a14 a15 a16 a17 a18 a19 a20 a21 := by
  unfold wL_lawOf_916
  refine br_t hz (tl_count1 (κ := 6) h (by decide) (fun fm fh fk fl ff fc ft a1 a2 a3 a4 a5 a6 a7 a8 a9 a10 a11 a12 a13 a14 a15 a16 a17 a18 a19 a20 a21 h => br_t rfl ?_))
  rcases hT with ⟨e, eT, es⟩ | ⟨x, hx, e, e1, eT, es⟩
  · exact br_t e (tl_L1012 hp hG7 hG8 hG16 hG17 hF h (Or.inl ⟨e, eT, es⟩))
  · subst e1 eT es
    have e' : (1 : Int32) - nI x = nI (1 - x) := pk_sub (a := 1) (b := x) (by omega)
    refine br_f (tl_n1of e) (tl_one h (show 1 < 12 by decide) (show 1 + 1 ≤ 12 by decide) (fun fm fh fk fl ff fc ft a1 a2 a3 a4 a5 a6 a7 a8 a9 a10 a11 a12 a13 a14 a15 a16 a17 a18 a19 a20 a21 h => br_t rfl ?_))
    have h : tl_I l o t f (tl_C1 l) (tl_T2 x) [1] (fm, fh, fk, fl, ff, fc, ft, a1, a2, a3, a4, a5, a6, a7, a8, a9, a10, a11, a12, a13, a14, a15, a16, a17, a18, a19, a20, a21) := h
    rw [e']
    refine tl_leaf h (show 2 < 12 by decide) (by omega) (fun fm fh fk fl ff fc ft a1 a2 a3 a4 a5 a6 a7 a8 a9 a10 a11 a12 a13 a14 a15 a16 a17 a18 a19 a20 a21 h => br_t rfl ?_)
    have h : tl_I l o t f (tl_C1 l) (tl_T3 x) [2, 1] (fm, fh, fk, fl, ff, fc, ft, a1, a2, a3, a4, a5, a6, a7, a8, a9, a10, a11, a12, a13, a14, a15, a16, a17, a18, a19, a20, a21) := h
    refine tl_rank h (tl_rk3 hx) (fun fm fh fk fl ff fc ft a1 a2 a3 a4 a5 a6 a7 a8 a9 a10 a11 a12 a13 a14 a15 a16 a17 a18 a19 a20 a21 h => br_t rfl ?_)
    refine tl_two h (show 3 < 12 by decide) (show 1 + 2 + 1 ≤ 12 by decide) (fun fm fh fk fl ff fc ft a1 a2 a3 a4 a5 a6 a7 a8 a9 a10 a11 a12 a13 a14 a15 a16 a17 a18 a19 a20 a21 h => br_t rfl ?_)
    have h : tl_I l o t f (tl_C1 l) (tl_T4 x) [3] (fm, fh, fk, fl, ff, fc, ft, a1, a2, a3, a4, a5, a6, a7, a8, a9, a10, a11, a12, a13, a14, a15, a16, a17, a18, a19, a20, a21) := h
    refine tl_size h (br_t rfl ?_)
    refine tl_letter (j := 1) h (tl_w4 hx) (show 1 < 4 by decide) (fun fm fh fk fl ff fc ft a1 a2 a3 a4 a5 a6 a7 a8 a9 a10 a11 a12 a13 a14 a15 a16 a17 a18 a19 a20 a21 h => br_t rfl ?_)
    refine tl_letter (j := 3) h (tl_w4 hx) (show 3 < 4 by decide) (fun fm fh fk fl ff fc ft a1 a2 a3 a4 a5 a6 a7 a8 a9 a10 a11 a12 a13 a14 a15 a16 a17 a18 a19 a20 a21 h => br_t rfl ?_)
    exact tl_L1012 hp hG7 hG8 hG16 hG17 hF h (Or.inr ⟨x, hx, e, rfl, rfl, rfl⟩)
theorem tl_L889 (hp : post 1 ()) (hG7 : tl_G x7 x0 2) (hG8 : tl_G x8 x3 16) (hG16 : tl_G x16 x1 2) (hG17 : tl_G x17 x2 4) (hF : tl_F5 l o f x0 x1 x2 x3 w) (hw : x19 = nI w) (h : tl_I l o t f (tl_C1 l) T st (fm, fh, fk, fl, ff, fc, ft, a1, a2, a3, a4, a5, a6, a7, a8, a9, a10, a11, a12, a13, a14, a15, a16, a17, a18, a19, a20, a21)) (hT : tl_Pi x16 x1 T st tl_T1 [0]) : wL_lawOf_889 post mc ms x0 x1 x2 x3 x7 x8 x16 x17 x19 kc ks fm fh fk fl ff fc ft a1 a2 a3 a4 a5 a6 a7 a8 a9 a10 a11 a12 a13 a14 a15 a16 a17 a18 a19 a20 a21 := by
  unfold wL_lawOf_889
  have hw16 := hF.1
  refine tl_count1 (κ := 2) h (by decide) (fun fm fh fk fl ff fc ft a1 a2 a3 a4 a5 a6 a7 a8 a9 a10 a11 a12 a13 a14 a15 a16 a17 a18 a19 a20 a21 h => br_t (by rw [hF.2.2.2.2.1]; rfl) ?_)
  refine tl_count1 (κ := 5) h (by decide) (fun fm fh fk fl ff fc ft a1 a2 a3 a4 a5 a6 a7 a8 a9 a10 a11 a12 a13 a14 a15 a16 a17 a18 a19 a20 a21 h => ?_)
  refine pk_eq w 0 (fun z => ?_) (fun z => ?_) hw
  · exact tl_L916 hp hG7 hG8 hG16 hG17 hF h hT (by rw [hF.2.2.2.2.2.1, if_pos z]; rfl)
  · exact tl_L916 hp hG7 hG8 hG16 hG17 hF h hT (by rw [hF.2.2.2.2.2.1, if_neg z]; rfl)
theorem tl_L886 (hp : post 1 ()) (hG7 : tl_G x7 x0 2) (hG8 : tl_G x8 x3 16) (hG16 : tl_G x16 x1 2) (hG17 : tl_G x17 x2 4) (hF : tl_F5 l o f x0 x1 x2 x3 w) (hw : x19 = nI w) (h : tl_I l o t f (tl_C1 l) T st (fm, fh, fk, fl, ff, fc, ft, a1, a2, a3, a4, a5, a6, a7, a8, a9, a10, a11, a12, a13, a14, a15, a16, a17, a18, a19, a20, a21)) (hT : tl_Pi x16 x1 T st tl_T1 [0]) (hz : z1 = z0) : wL_lawOf_886 post mc ms x0 x1 x2 x3 x7 x8 x16 x17 x19 z0 z1 kc ks fm fh fk fl ff fc ft a1 a2 a3 a4 a5 a6 a7 a8 a9 a10 a11 a12 a13 a14 a15 a16 a17 a18 a19 a20 a21 := by
  unfold wL_lawOf_886
  exact br_t hz (tl_L889 hp hG7 hG8 hG16 hG17 hF hw h hT)
theorem tl_L864 (hp : post 1 ()) (hG7 : tl_G x7 x0 2) (hG8 : tl_G x8 x3 16) (hG16 : tl_G x16 x1 2) (hG17 : tl_G x17 x2 4) (hF : tl_F5 l o f x0 x1 x2 x3 w) (hw : x19 = nI w) (h : tl_I l o t f (tl_C1 l) T st (fm, fh, fk, fl, ff, fc, ft, a1, a2, a3, a4, a5, a6, a7, a8, a9, a10, a11, a12, a13, a14, a15, a16, a17, a18, a19, a20, a21)) (hT : tl_Pi x16 x1 T st tl_T1 [0]) : wL_lawOf_864 post mc ms x0 x1 x2 x3 x7 x8 x16 x17 x19 kc ks fm fh fk fl ff fc ft a1 a2 a3 a4 a5 a6 a7 a8 a9 a10 a11 a12 a13 a14 a15 a16 a17 a18 a19 a20 a21 := by
  unfold wL_lawOf_864
  have hw16 := hF.1
  refine br_c (fun _ => tl_L889 hp hG7 hG8 hG16 hG17 hF hw h hT) (fun n7 => ?_)
  obtain ⟨m, hm, e0⟩ := tl_Gg hG7 n7
  have k := hF.2.2.2.1 m hm e0
  subst e0
  refine tl_count1 (κ := m) h (by omega) (fun fm fh fk fl ff fc ft a1 a2 a3 a4 a5 a6 a7 a8 a9 a10 a11 a12 a13 a14 a15 a16 a17 a18 a19 a20 a21 h => ?_)
  refine pk_eq w 0 (fun z => ?_) (fun z => ?_) hw
  · exact tl_L886 hp hG7 hG8 hG16 hG17 hF hw h hT (by rw [k, if_pos z]; rfl)
  · exact tl_L886 hp hG7 hG8 hG16 hG17 hF hw h hT (by rw [k, if_neg z]; rfl)
theorem tl_Pi1_len {x16 x1 : Int32} {T : List (Nat × Nat × Nat × Nat)} {st : List Nat} (hT : tl_Pi x16 x1 T st tl_T1 [0]) : T.length < 12 ∧ st.length < 2 := by
  rcases hT with ⟨_, eT, es⟩ | ⟨x, hx, e, e1, eT, es⟩
  · subst eT es
    decide
  · subst eT es
    exact ⟨show 1 < 12 by decide, show 1 < 2 by decide⟩
theorem tl_L849 (hp : post 1 ()) (hG7 : tl_G x7 x0 2) (hG8 : tl_G x8 x3 16) (hG16 : tl_G x16 x1 2) (hG17 : tl_G x17 x2 4) (hF : tl_F5 l o f x0 x1 x2 x3 w) (hw : x19 = nI w) (h : tl_I l o t f (tl_C1 l) T st (fm, fh, fk, fl, ff, fc, ft, a1, a2, a3, a4, a5, a6, a7, a8, a9, a10, a11, a12, a13, a14, a15, a16, a17, a18, a19, a20, a21)) (hT : tl_Pi x16 x1 T st tl_T1 [0]) (hz : z1 = z0) : wL_lawOf_849 post mc ms x0 x1 x2 x3 x7 x8 x16 x17 x19 z0 z1 kc ks fm fh fk fl ff fc ft a1 a2 a3 a4 a5 a6 a7 a8 a9 a10 a11 a12 a13 a14 a15 a16 a17 a18 a19 a20 a21 := by
  unfold wL_lawOf_849
  have hl := tl_Pi1_len hT
  exact br_t hz (tl_two_few h hl.1 hl.2 (br_t rfl (tl_L864 hp hG7 hG8 hG16 hG17 hF hw h hT)))
theorem tl_L829 {x : Nat} (hp : post 1 ()) (hG7 : tl_G x7 x0 2) (hG8 : tl_G x8 x3 16) (hG16 : tl_G x16 x1 2) (hG17 : tl_G x17 x2 4) (hF : tl_F5 l o f x0 x1 x2 x3 w) (hw : x19 = nI w) (h20 : x20 = nI (tl_pop w 4)) (hx : x < 2) (e16 : x16 = 1) (e1 : x1 = nI x) (h : tl_I l o t f (tl_C1 l) (tl_T1 x) [0] (fm, fh, fk, fl, ff, fc, ft, a1, a2, a3, a4, a5, a6, a7, a8, a9, a10, a11, a12, a13, a14, a15, a16, a17, a18, a19, a20, a21)) (hz : z1 = z0) : wL_lawOf_829 post mc ms x0 x1 x2 x3 x7 x8 x16 x17 x19 x20 z0 z1 kc ks fm fh fk fl ff fc ft a1 a2 a3 a4 a5 a6 a7 a8 a9 a10 a11 a12 a13 a14 a15 a16 a17 a18 a19 a20 a21 := by
  unfold wL_lawOf_829
  refine br_t hz ?_
  rcases hG7 with ⟨e7, m, hm, e0⟩ | ⟨e7, hb7⟩
  · subst e0
    have k := hF.2.1 m x hm hx rfl e1
    refine tl_runs h hm (fun fm fh fk fl ff fc ft a1 a2 a3 a4 a5 a6 a7 a8 a9 a10 a11 a12 a13 a14 a15 a16 a17 a18 a19 a20 a21 h hq => br_f (tl_n1of e7) ?_)
    refine tl_L849 hp (Or.inl ⟨e7, m, hm, rfl⟩) hG8 hG16 hG17 hF hw h (Or.inr ⟨x, hx, e16, e1, rfl, rfl⟩) ?_
    rw [h20, k.2]
    refine tl_rs_pop (fun q hq4 => ?_) 4 (by omega)
    have j := hq (show x < 2 from hx) q hq4
    have j' : a13 (4 * 0 + q) = nI (l (2 * m + x) / 2 ^ q % 2) := j
    rw [k.1] at j'
    exact j'
  · exact tl_runs_bad (tl_Gle (N := 1) (by decide) hb7) (br_t e7 (tl_L849 hp (Or.inr ⟨e7, hb7⟩) hG8 hG16 hG17 hF hw h (Or.inr ⟨x, hx, e16, e1, rfl, rfl⟩) rfl))
theorem tl_L764 (hp : post 1 ()) (hG7 : tl_G x7 x0 2) (hG8 : tl_G x8 x3 16) (hG16 : tl_G x16 x1 2) (hG17 : tl_G x17 x2 4) (hF : tl_F5 l o f x0 x1 x2 x3 w) (hw : x19 = nI w) (h : tl_I l o t f (tl_C1 l) T st (fm, fh, fk, fl, ff, fc, ft, a1, a2, a3, a4, a5, a6, a7, a8, a9, a10, a11, a12, a13, a14, a15, a16, a17, a18, a19, a20, a21)) (hT : tl_Pi x16 x1 T st tl_T1 [0]) : ∃ fu, wL_lawOf_764 post mc ms x0 x1 x2 x3 x7 x8 x16 x17 x19 kc ks fm fh fk fl ff fc ft a1 a2 a3 a4 a5 a6 a7 a8 a9 a10 a11 a12 a13 a14 a15 a16 a17 a18 a19 a20 a21 fu 0 0 := by
  have hw16 := hF.1
  refine pk_loop (σ := Int32) (fun g q y => wL_lawOf_764 post mc ms x0 x1 x2 x3 x7 x8 x16 x17 x19 kc ks fm fh fk fl ff fc ft a1 a2 a3 a4 a5 a6 a7 a8 a9 a10 a11 a12 a13 a14 a15 a16 a17 a18 a19 a20 a21 g y (nI q)) (fun q y => y = nI (tl_pop w q)) 4 0 0 (by omega) rfl
    (fun g y h20 => pk_le 4 4 (fun _ => ?_) (fun z => absurd z (by omega)))
    (fun g q y hq h20 hw' => pk_le 4 q (fun z => absurd z (by omega)) (fun _ => nm_r (e' := nI (tl_pop w (q + 1))) ?_ (nm_r (nI_1 q) (hw' _ rfl))))
  · rcases hT with ⟨e, eT, es⟩ | ⟨x, hx, e, e1, eT, es⟩
    · exact br_t e (tl_L864 hp hG7 hG8 hG16 hG17 hF hw h (Or.inl ⟨e, eT, es⟩))
    · subst e1 eT es
      have hb := tl_I_au h
      refine br_f (tl_n1of e) (tl_rank h (tl_rk1 hx) (fun fm fh fk fl ff fc ft a1 a2 a3 a4 a5 a6 a7 a8 a9 a10 a11 a12 a13 a14 a15 a16 a17 a18 a19 a20 a21 h => br_t rfl ?_))
      refine tl_letter (j := 0) h (tl_w1 hx) (show 0 < 1 by decide) (fun fm fh fk fl ff fc ft a1 a2 a3 a4 a5 a6 a7 a8 a9 a10 a11 a12 a13 a14 a15 a16 a17 a18 a19 a20 a21 h => br_t rfl ?_)
      rcases hG7 with ⟨e7, m, hm, e0⟩ | ⟨e7, hb7⟩
      · subst e0
        have k := hF.2.1 m x hm hx rfl rfl
        refine tl_states h hm (tl_cr1 (o := o) (t := t) hb.1 hx) (fun fm fh fk fl ff fc ft a1 a2 a3 a4 a5 a6 a7 a8 a9 a10 a11 a12 a13 a14 a15 a16 a17 a18 a19 a20 a21 h => br_f (tl_n1of e7) ?_)
        refine tl_L829 hp (Or.inl ⟨e7, m, hm, rfl⟩) hG8 hG16 hG17 hF hw h20 hx e rfl h ?_
        rw [hw, ← k.1]
        have l0 := hb.1 x (by omega)
        have l2 := hb.1 (2 + x) (by omega)
        have c : m = 0 ∨ m = 1 := by omega
        rcases c with rfl | rfl
        · rw [if_pos rfl, Nat.mul_zero, Nat.zero_add]
          refine congrArg nI ?_
          show (l x + 16 * l (2 + x)) % 16 = l x
          omega
        · rw [if_neg (by decide), Nat.mul_one]
          refine congrArg nI ?_
          show (l x + 16 * l (2 + x)) / 16 = l (2 + x)
          omega
      · exact tl_states_bad (tl_Gle (N := 1) (by decide) hb7) (br_t e7 (tl_L829 hp (Or.inr ⟨e7, hb7⟩) hG8 hG16 hG17 hF hw h20 hx e rfl h rfl))
  · rw [hw, tl_bit (by omega) (by omega), h20, nI_add]
    rfl
end
end
section
/-! ===== the law: the rules ===== -/
theorem tl_Gz {b x : Int32} {N : Nat} (h : tl_G b x N) (e : b = 0) : x < 0 ∨ nI N ≤ x := by
  rcases h with ⟨e1, _⟩ | ⟨_, k⟩
  · exact absurd (e1.symm.trans e) tl_one_ne
  · exact k
theorem tl_Gmk {x : Int32} {N : Nat} (hN : N < 2 ^ 31) (h1 : ¬ x < 0) (h2 : ¬ nI N ≤ x) : tl_G 1 x N := by
  rcases pk_ix x hN with k | k | k
  · exact absurd k h1
  · exact absurd k h2
  · exact Or.inl ⟨rfl, k⟩
theorem tl_G2no {x : Int32} (h0 : ¬ x = 0) (h1 : ¬ x = 1) : tl_G 0 x 2 := by
  rcases pk_ix x (show 2 < 2 ^ 31 by decide) with k | k | ⟨j, hj, k⟩
  · exact Or.inr ⟨rfl, Or.inl k⟩
  · exact Or.inr ⟨rfl, Or.inr k⟩
  · have c : j = 0 ∨ j = 1 := by omega
    rcases c with rfl | rfl
    · exact absurd k h0
    · exact absurd k h1
theorem tl_upup (m s : Nat) : tl_up (tl_up tl_z m s) m s = tl_up tl_z m s := by
  funext j
  unfold tl_up
  split <;> rfl
section
variable {post : Int32 → St0 → Prop} {mc ms kc ks : Nat} {x0 x1 x2 x3 x7 x8 x16 x17 x18 x19 x20 x21 z0 z1 : Int32} {l o t f : Nat → Nat} {T : List (Nat × Nat × Nat × Nat)} {st : List Nat} {w : Nat} {fm fh fk fl ff fc ft : Int32} {a1 a2 a3 a4 a5 a6 a7 a8 a9 a10 a11 a12 a13 a14 a15 a16 a17 a18 a19 a20 a21 : Nat → Int32}
theorem tl_L731 (hp : post 1 ()) (hG7 : tl_G x7 x0 2) (hG8 : tl_G x8 x3 16) (hG16 : tl_G x16 x1 2) (hG17 : tl_G x17 x2 4) (hL : tl_isL x0 x1 x3 l) (hO : tl_isO x0 x2 x3 o) (hF : tl_isF x0 x3 f) (h : tl_I l o t f (tl_C1 l) T st (fm, fh, fk, fl, ff, fc, ft, a1, a2, a3, a4, a5, a6, a7, a8, a9, a10, a11, a12, a13, a14, a15, a16, a17, a18, a19, a20, a21)) (hT : tl_Pi x16 x1 T st tl_T1 [0]) (hz : z1 = z0) : wL_lawOf_731 post mc ms x0 x1 x2 x3 x7 x8 x16 x17 z0 z1 kc ks fm fh fk fl ff fc ft a1 a2 a3 a4 a5 a6 a7 a8 a9 a10 a11 a12 a13 a14 a15 a16 a17 a18 a19 a20 a21 := by
  unfold wL_lawOf_731
  have B : (∀ m x s, m < 2 → x < 2 → s < 16 → x0 = nI m → x1 = nI x → ¬ x3 = nI s) → ∃ fu, wL_lawOf_764 post mc ms x0 x1 x2 x3 x7 x8 x16 x17 0 kc ks fm fh fk fl ff fc ft a1 a2 a3 a4 a5 a6 a7 a8 a9 a10 a11 a12 a13 a14 a15 a16 a17 a18 a19 a20 a21 fu 0 0 :=
    fun no => tl_L764 (w := 0) hp hG7 hG8 hG16 hG17 (tl_F5_of hL hO hF (Or.inr ⟨rfl, no⟩)) rfl h hT
  refine br_t hz (br_c (fun e7 => B ?_) (fun n7 => br_c (fun e16 => B ?_) (fun n16 => br_c (fun e8 => B ?_) (fun n8 => ?_))))
  · intro m x s hm hx hs e0 _ _
    exact tl_Gno (by decide) (tl_Gz hG7 e7) hm e0
  · intro m x s hm hx hs _ e1 _
    exact tl_Gno (by decide) (tl_Gz hG16 e16) hx e1
  · intro m x s hm hx hs _ _ e3
    exact tl_Gno (by decide) (tl_Gz hG8 e8) hs e3
  · obtain ⟨m, hm, e0⟩ := tl_Gg hG7 n7
    obtain ⟨x, hx, e1⟩ := tl_Gg hG16 n16
    obtain ⟨s, hs, e3⟩ := tl_Gg hG8 n8
    exact tl_L764 (w := s) hp hG7 hG8 hG16 hG17 (tl_F5_of hL hO hF (Or.inl ⟨m, x, s, hm, hx, hs, e0, e1, e3, rfl⟩)) e3 h hT
theorem tl_L712 (hp : post 1 ()) (hG7 : tl_G x7 x0 2) (hG8 : tl_G x8 x3 16) (hG16 : tl_G x16 x1 2) (hG17 : tl_G x17 x2 4) (hL : tl_isL x0 x1 x3 l) (hO : tl_isO x0 x2 x3 o) (hF : tl_isF x0 x3 f) (h : tl_I l o t f (tl_C1 l) T st (fm, fh, fk, fl, ff, fc, ft, a1, a2, a3, a4, a5, a6, a7, a8, a9, a10, a11, a12, a13, a14, a15, a16, a17, a18, a19, a20, a21)) (hT : tl_Pi x16 x1 T st tl_T1 [0]) (hz : z1 = z0) : wL_lawOf_712 post mc ms x0 x1 x2 x3 x7 x8 x16 x17 z0 z1 kc ks fm fh fk fl ff fc ft a1 a2 a3 a4 a5 a6 a7 a8 a9 a10 a11 a12 a13 a14 a15 a16 a17 a18 a19 a20 a21 := by
  unfold wL_lawOf_712
  refine br_t hz ?_
  have hT' := hT
  rcases hT with ⟨e, eT, es⟩ | ⟨x, hx, e, e1, eT, es⟩
  · subst eT es
    exact tl_sizeE h (br_t e (tl_L731 hp hG7 hG8 hG16 hG17 hL hO hF h hT' rfl))
  · subst eT es
    exact tl_size h (br_f (tl_n1of e) (tl_L731 hp hG7 hG8 hG16 hG17 hL hO hF h hT' rfl))
theorem tl_L693 (hp : post 1 ()) (hG7 : tl_G x7 x0 2) (hG8 : tl_G x8 x3 16) (hG16 : tl_G x16 x1 2) (hG17 : tl_G x17 x2 4) (hL : tl_isL x0 x1 x3 l) (hO : tl_isO x0 x2 x3 o) (hF : tl_isF x0 x3 f) (h : tl_I l o t f (tl_C1 l) [] [] (fm, fh, fk, fl, ff, fc, ft, a1, a2, a3, a4, a5, a6, a7, a8, a9, a10, a11, a12, a13, a14, a15, a16, a17, a18, a19, a20, a21)) (hz : z1 = z0) : wL_lawOf_693 post mc ms x0 x1 x2 x3 x7 x8 x16 x17 z0 z1 kc ks fm fh fk fl ff fc ft a1 a2 a3 a4 a5 a6 a7 a8 a9 a10 a11 a12 a13 a14 a15 a16 a17 a18 a19 a20 a21 := by
  unfold wL_lawOf_693
  refine br_t hz ?_
  have hG := hG16
  rcases hG16 with ⟨e, x, hx, e1⟩ | ⟨e, hb⟩
  · subst e1
    exact tl_leaf h (by decide) hx (fun fm fh fk fl ff fc ft a1 a2 a3 a4 a5 a6 a7 a8 a9 a10 a11 a12 a13 a14 a15 a16 a17 a18 a19 a20 a21 k => br_f (tl_n1of e) (tl_L712 hp hG7 hG8 hG hG17 hL hO hF k (Or.inr ⟨x, hx, e, rfl, rfl, rfl⟩) rfl))
  · exact tl_leaf_bad (tl_Gle (N := 1) (by decide) hb) (br_t e (tl_L712 hp hG7 hG8 hG hG17 hL hO hF h (Or.inl ⟨e, rfl, rfl⟩) rfl))
theorem tl_L668 (hp : post 1 ()) (hG7 : tl_G x7 x0 2) (hG8 : tl_G x8 x3 16) (hG16 : tl_G x16 x1 2) (hG17 : tl_G x17 x2 4) (hL : tl_isL x0 x1 x3 l) (hO : tl_isO x0 x2 x3 o) (hF : tl_isF x0 x3 f) (h : tl_I l o t f (tl_C1 l) [] [] (fm, fh, fk, fl, ff, fc, ft, a1, a2, a3, a4, a5, a6, a7, a8, a9, a10, a11, a12, a13, a14, a15, a16, a17, a18, a19, a20, a21)) (hz : z1 = z0) : wL_lawOf_668 post mc ms x0 x1 x2 x3 x7 x8 x16 x17 z0 z1 kc ks fm fh fk fl ff fc ft a1 a2 a3 a4 a5 a6 a7 a8 a9 a10 a11 a12 a13 a14 a15 a16 a17 a18 a19 a20 a21 := by
  unfold wL_lawOf_668
  refine br_t hz ?_
  have k7 := hG7
  have k8 := hG8
  rcases hG7 with ⟨e7, m, hm, e0⟩ | ⟨e7, hb7⟩
  · rcases hG8 with ⟨e8, s, hs, e3⟩ | ⟨e8, hb8⟩
    · have ef : f = tl_up tl_z m s := by
        rcases hF with ⟨m', s', hm', hs', j0, j3, j⟩ | ⟨_, j⟩
        · rw [j, tl_inj (by omega) (by omega) (j0.symm.trans e0), tl_inj (by omega) (by omega) (j3.symm.trans e3)]
        · exact absurd e3 (j m s hm hs e0)
      subst e0 e3 ef
      refine tl_finals h hm hs (fun fm fh fk fl ff fc ft a1 a2 a3 a4 a5 a6 a7 a8 a9 a10 a11 a12 a13 a14 a15 a16 a17 a18 a19 a20 a21 k => br_f (tl_n1of e7) (br_f (tl_n1of e8) ?_))
      rw [tl_upup] at k
      exact tl_L693 hp k7 k8 hG16 hG17 hL hO hF k (congrArg nI (if_pos rfl))
    · refine tl_finals_bad (Or.inr (tl_Gle (N := 15) (by decide) hb8)) (br_f (tl_n1of e7) (br_t e8 ?_))
      unfold wL_lawOf_692
      exact tl_L693 hp k7 k8 hG16 hG17 hL hO hF h rfl
  · refine tl_finals_bad (Or.inl (tl_Gle (N := 1) (by decide) hb7)) (br_t e7 ?_)
    unfold wL_lawOf_692
    exact tl_L693 hp k7 k8 hG16 hG17 hL hO hF h rfl
theorem tl_L641 (hp : post 1 ()) (hG7 : tl_G x7 x0 2) (hG8 : tl_G x8 x3 16) (hG16 : tl_G x16 x1 2) (hG17 : tl_G x17 x2 4) (hL : tl_isL x0 x1 x3 l) (hO : tl_isO x0 x2 x3 o) (h : tl_I l o t tl_z (tl_C1 l) [] [] (fm, fh, fk, fl, ff, fc, ft, a1, a2, a3, a4, a5, a6, a7, a8, a9, a10, a11, a12, a13, a14, a15, a16, a17, a18, a19, a20, a21)) (hz : z1 = z0) : wL_lawOf_641 post mc ms x0 x1 x2 x3 x7 x8 x16 x17 z0 z1 kc ks fm fh fk fl ff fc ft a1 a2 a3 a4 a5 a6 a7 a8 a9 a10 a11 a12 a13 a14 a15 a16 a17 a18 a19 a20 a21 := by
  unfold wL_lawOf_641
  refine br_t hz ?_
  have k7 := hG7
  have k8 := hG8
  rcases hG7 with ⟨e7, m, hm, e0⟩ | ⟨e7, hb7⟩
  · rcases hG8 with ⟨e8, s, hs, e3⟩ | ⟨e8, hb8⟩
    · subst e0 e3
      refine tl_finals h hm hs (fun fm fh fk fl ff fc ft a1 a2 a3 a4 a5 a6 a7 a8 a9 a10 a11 a12 a13 a14 a15 a16 a17 a18 a19 a20 a21 k => br_f (tl_n1of e7) (br_f (tl_n1of e8) ?_))
      exact tl_L668 hp k7 k8 hG16 hG17 hL hO (Or.inl ⟨m, s, hm, hs, rfl, rfl, rfl⟩) k rfl
    · refine tl_finals_bad (Or.inr (tl_Gle (N := 15) (by decide) hb8)) (br_f (tl_n1of e7) (br_t e8 ?_))
      unfold wL_lawOf_667
      exact tl_L668 hp k7 k8 hG16 hG17 hL hO (Or.inr ⟨rfl, fun m s hm hs _ e3 => tl_Gno (by decide) hb8 hs e3⟩) h rfl
  · refine tl_finals_bad (Or.inl (tl_Gle (N := 1) (by decide) hb7)) (br_t e7 ?_)
    unfold wL_lawOf_667
    exact tl_L668 hp k7 k8 hG16 hG17 hL hO (Or.inr ⟨rfl, fun m s hm hs e0 _ => tl_Gno (by decide) hb7 hm e0⟩) h rfl
theorem tl_L610 (hp : post 1 ()) (hG7 : tl_G x7 x0 2) (hG8 : tl_G x8 x3 16) (hG16 : tl_G x16 x1 2) (hG17 : tl_G x17 x2 4) (hG18 : tl_G x18 x2 16) (hL : tl_isL x0 x1 x3 l) (hO : tl_isO x0 x2 x3 o) (h : tl_I l o tl_z tl_z (tl_C1 l) [] [] (fm, fh, fk, fl, ff, fc, ft, a1, a2, a3, a4, a5, a6, a7, a8, a9, a10, a11, a12, a13, a14, a15, a16, a17, a18, a19, a20, a21)) (hz : z1 = z0) : wL_lawOf_610 post mc ms x0 x1 x2 x3 x7 x8 x16 x17 x18 z0 z1 kc ks fm fh fk fl ff fc ft a1 a2 a3 a4 a5 a6 a7 a8 a9 a10 a11 a12 a13 a14 a15 a16 a17 a18 a19 a20 a21 := by
  unfold wL_lawOf_610
  refine br_t hz ?_
  have k7 := hG7
  have k8 := hG8
  rcases hG7 with ⟨e7, m, hm, e0⟩ | ⟨e7, hb7⟩
  · rcases hG18 with ⟨e18, p, hpp, e2⟩ | ⟨e18, hb18⟩
    · rcases hG8 with ⟨e8, s, hs, e3⟩ | ⟨e8, hb8⟩
      · subst e0 e2 e3
        refine tl_twoRule (D := tl_C1 l) h hm hpp hs (fun fm fh fk fl ff fc ft a1 a2 a3 a4 a5 a6 a7 a8 a9 a10 a11 a12 a13 a14 a15 a16 a17 a18 a19 a20 a21 k => br_f (tl_n1of e7) (br_f (tl_n1of e18) (br_f (tl_n1of e8) ?_)))
        exact tl_L641 hp k7 k8 hG16 hG17 hL hO k rfl
      · refine tl_twoRule_bad (Or.inr (Or.inr (tl_Gle (N := 15) (by decide) hb8))) (br_f (tl_n1of e7) (br_f (tl_n1of e18) (br_t e8 ?_)))
        unfold wL_lawOf_640
        exact tl_L641 hp k7 k8 hG16 hG17 hL hO h rfl
    · refine tl_twoRule_bad (Or.inr (Or.inl (tl_Gle (N := 15) (by decide) hb18))) (br_f (tl_n1of e7) (br_t e18 ?_))
      unfold wL_lawOf_640
      exact tl_L641 hp k7 k8 hG16 hG17 hL hO h rfl
  · refine tl_twoRule_bad (Or.inl (tl_Gle (N := 1) (by decide) hb7)) (br_t e7 ?_)
    unfold wL_lawOf_640
    exact tl_L641 hp k7 k8 hG16 hG17 hL hO h rfl
theorem tl_L579 (hp : post 1 ()) (hG7 : tl_G x7 x0 2) (hG8 : tl_G x8 x3 16) (hG16 : tl_G x16 x1 2) (hG17 : tl_G x17 x2 4) (hG18 : tl_G x18 x2 16) (hL : tl_isL x0 x1 x3 l) (h : tl_I l tl_z tl_z tl_z (tl_C1 l) [] [] (fm, fh, fk, fl, ff, fc, ft, a1, a2, a3, a4, a5, a6, a7, a8, a9, a10, a11, a12, a13, a14, a15, a16, a17, a18, a19, a20, a21)) (hz : z1 = z0) : wL_lawOf_579 post mc ms x0 x1 x2 x3 x7 x8 x16 x17 x18 z0 z1 kc ks fm fh fk fl ff fc ft a1 a2 a3 a4 a5 a6 a7 a8 a9 a10 a11 a12 a13 a14 a15 a16 a17 a18 a19 a20 a21 := by
  unfold wL_lawOf_579
  refine br_t hz ?_
  have k7 := hG7
  have k8 := hG8
  have k17 := hG17
  rcases hG7 with ⟨e7, m, hm, e0⟩ | ⟨e7, hb7⟩
  · rcases hG17 with ⟨e17, p, hpp, e2⟩ | ⟨e17, hb17⟩
    · rcases hG8 with ⟨e8, s, hs, e3⟩ | ⟨e8, hb8⟩
      · subst e0 e2 e3
        refine tl_oneRule (D := tl_C1 l) h hm hpp hs (fun fm fh fk fl ff fc ft a1 a2 a3 a4 a5 a6 a7 a8 a9 a10 a11 a12 a13 a14 a15 a16 a17 a18 a19 a20 a21 k => br_f (tl_n1of e7) (br_f (tl_n1of e17) (br_f (tl_n1of e8) ?_)))
        exact tl_L610 hp k7 k8 hG16 k17 hG18 hL (Or.inl ⟨m, p, s, hm, hpp, hs, rfl, rfl, rfl, rfl⟩) k rfl
      · refine tl_oneRule_bad (Or.inr (Or.inr (tl_Gle (N := 15) (by decide) hb8))) (br_f (tl_n1of e7) (br_f (tl_n1of e17) (br_t e8 ?_)))
        unfold wL_lawOf_609
        exact tl_L610 hp k7 k8 hG16 k17 hG18 hL (Or.inr ⟨rfl, fun m x s hm hx hs _ _ e3 => tl_Gno (by decide) hb8 hs e3⟩) h rfl
    · refine tl_oneRule_bad (Or.inr (Or.inl (tl_Glt (N := 3) (by decide) hb17))) (br_f (tl_n1of e7) (br_t e17 ?_))
      unfold wL_lawOf_609
      exact tl_L610 hp k7 k8 hG16 k17 hG18 hL (Or.inr ⟨rfl, fun m x s hm hx hs _ e2 _ => tl_Gno (by decide) hb17 hx e2⟩) h rfl
  · refine tl_oneRule_bad (Or.inl (tl_Gle (N := 1) (by decide) hb7)) (br_t e7 ?_)
    unfold wL_lawOf_609
    exact tl_L610 hp k7 k8 hG16 k17 hG18 hL (Or.inr ⟨rfl, fun m x s hm hx hs e0 _ _ => tl_Gno (by decide) hb7 hm e0⟩) h rfl
theorem tl_L549 (hp : post 1 ()) (hG7 : tl_G x7 x0 2) (hG8 : tl_G x8 x3 16) (hG16 : tl_G x16 x1 2) (hG17 : tl_G x17 x2 4) (hG18 : tl_G x18 x2 16) (h : tl_I tl_z tl_z tl_z tl_z tl_CE [] [] (fm, fh, fk, fl, ff, fc, ft, a1, a2, a3, a4, a5, a6, a7, a8, a9, a10, a11, a12, a13, a14, a15, a16, a17, a18, a19, a20, a21)) : wL_lawOf_549 post mc ms x0 x1 x2 x3 x7 x8 x16 x17 x18 kc ks fm fh fk fl ff fc ft a1 a2 a3 a4 a5 a6 a7 a8 a9 a10 a11 a12 a13 a14 a15 a16 a17 a18 a19 a20 a21 := by
  unfold wL_lawOf_549
  have h' : tl_I tl_z tl_z tl_z tl_z (tl_C1 tl_z) [] [] (fm, fh, fk, fl, ff, fc, ft, a1, a2, a3, a4, a5, a6, a7, a8, a9, a10, a11, a12, a13, a14, a15, a16, a17, a18, a19, a20, a21) := tl_I_mono (fun a ha => tl_CE_C1 ha) h
  have k7 := hG7
  have k8 := hG8
  have k16 := hG16
  rcases hG7 with ⟨e7, m, hm, e0⟩ | ⟨e7, hb7⟩
  · rcases hG16 with ⟨e16, x, hx, e1⟩ | ⟨e16, hb16⟩
    · rcases hG8 with ⟨e8, s, hs, e3⟩ | ⟨e8, hb8⟩
      · subst e0 e1 e3
        refine tl_leafRule (D := tl_C1 (tl_up tl_z (2 * m + x) s)) h hm hx hs (fun fm fh fk fl ff fc ft a1 a2 a3 a4 a5 a6 a7 a8 a9 a10 a11 a12 a13 a14 a15 a16 a17 a18 a19 a20 a21 k => br_f (tl_n1of e7) (br_f (tl_n1of e16) (br_f (tl_n1of e8) ?_)))
        exact tl_L579 hp k7 k8 k16 hG17 hG18 (Or.inl ⟨m, x, s, hm, hx, hs, rfl, rfl, rfl, rfl⟩) k rfl
      · refine tl_leafRule_bad (Or.inr (Or.inr (tl_Gle (N := 15) (by decide) hb8))) (br_f (tl_n1of e7) (br_f (tl_n1of e16) (br_t e8 ?_)))
        unfold wL_lawOf_578
        exact tl_L579 hp k7 k8 k16 hG17 hG18 (Or.inr ⟨rfl, fun m x s hm hx hs _ _ e3 => tl_Gno (by decide) hb8 hs e3⟩) h' rfl
    · refine tl_leafRule_bad (Or.inr (Or.inl (tl_Glt (N := 1) (by decide) hb16))) (br_f (tl_n1of e7) (br_t e16 ?_))
      unfold wL_lawOf_578
      exact tl_L579 hp k7 k8 k16 hG17 hG18 (Or.inr ⟨rfl, fun m x s hm hx hs _ e1 _ => tl_Gno (by decide) hb16 hx e1⟩) h' rfl
  · refine tl_leafRule_bad (Or.inl (tl_Gle (N := 1) (by decide) hb7)) (br_t e7 ?_)
    unfold wL_lawOf_578
    exact tl_L579 hp k7 k8 k16 hG17 hG18 (Or.inr ⟨rfl, fun m x s hm hx hs e0 _ _ => tl_Gno (by decide) hb7 hm e0⟩) h' rfl
theorem tl_L532 (hp : post 1 ()) (hG7 : tl_G x7 x0 2) (hG8 : tl_G x8 x3 16) (hG16 : tl_G x16 x1 2) (hG17 : tl_G z0 x2 4) (h : tl_I tl_z tl_z tl_z tl_z tl_CE [] [] (fm, fh, fk, fl, ff, fc, ft, a1, a2, a3, a4, a5, a6, a7, a8, a9, a10, a11, a12, a13, a14, a15, a16, a17, a18, a19, a20, a21)) : wL_lawOf_532 post mc ms x0 x1 x2 x3 x7 x8 x16 z0 kc ks fm fh fk fl ff fc ft a1 a2 a3 a4 a5 a6 a7 a8 a9 a10 a11 a12 a13 a14 a15 a16 a17 a18 a19 a20 a21 := by
  unfold wL_lawOf_532
  refine br_c (fun z => ?_) (fun z => br_c (fun z2 => ?_) (fun z2 => ?_))
  · unfold wL_lawOf_548
    exact tl_L549 hp hG7 hG8 hG16 hG17 (Or.inr ⟨rfl, Or.inl z⟩) h
  · unfold wL_lawOf_548
    exact tl_L549 hp hG7 hG8 hG16 hG17 (Or.inr ⟨rfl, Or.inr z2⟩) h
  · exact tl_L549 hp hG7 hG8 hG16 hG17 (tl_Gmk (by decide) z z2) h
theorem tl_L516 (hp : post 1 ()) (hG7 : tl_G x7 x0 2) (hG8 : tl_G x8 x3 16) (hG16 : tl_G z0 x1 2) (h : tl_I tl_z tl_z tl_z tl_z tl_CE [] [] (fm, fh, fk, fl, ff, fc, ft, a1, a2, a3, a4, a5, a6, a7, a8, a9, a10, a11, a12, a13, a14, a15, a16, a17, a18, a19, a20, a21)) : wL_lawOf_516 post mc ms x0 x1 x2 x3 x7 x8 z0 kc ks fm fh fk fl ff fc ft a1 a2 a3 a4 a5 a6 a7 a8 a9 a10 a11 a12 a13 a14 a15 a16 a17 a18 a19 a20 a21 := by
  unfold wL_lawOf_516
  refine br_c (fun z => ?_) (fun z => br_c (fun z2 => ?_) (fun z2 => ?_))
  · unfold wL_lawOf_531
    exact tl_L532 hp hG7 hG8 hG16 (Or.inr ⟨rfl, Or.inl z⟩) h
  · unfold wL_lawOf_531
    exact tl_L532 hp hG7 hG8 hG16 (Or.inr ⟨rfl, Or.inr z2⟩) h
  · exact tl_L532 hp hG7 hG8 hG16 (tl_Gmk (by decide) z z2) h
theorem tl_L496 (hp : post 1 ()) (hG7 : tl_G x7 x0 2) (hG8 : tl_G x8 x3 16) (h : tl_I tl_z tl_z tl_z tl_z tl_CE T st (fm, fh, fk, fl, ff, fc, ft, a1, a2, a3, a4, a5, a6, a7, a8, a9, a10, a11, a12, a13, a14, a15, a16, a17, a18, a19, a20, a21)) : wL_lawOf_496 post mc ms x0 x1 x2 x3 x7 x8 kc ks fm fh fk fl ff fc ft a1 a2 a3 a4 a5 a6 a7 a8 a9 a10 a11 a12 a13 a14 a15 a16 a17 a18 a19 a20 a21 := by
  unfold wL_lawOf_496
  refine tl_discard h (fun fm fh fk fl ff fc ft a1 a2 a3 a4 a5 a6 a7 a8 a9 a10 a11 a12 a13 a14 a15 a16 a17 a18 a19 a20 a21 k => br_c (fun z => ?_) (fun z => br_c (fun z2 => ?_) (fun z2 => ?_)))
  · unfold wL_lawOf_511
    exact tl_L516 hp hG7 hG8 (Or.inl ⟨rfl, 0, by decide, z⟩) k
  · unfold wL_lawOf_511
    exact tl_L516 hp hG7 hG8 (Or.inl ⟨rfl, 1, by decide, z2⟩) k
  · exact tl_L516 hp hG7 hG8 (tl_G2no z z2) k
end
end
section
/-! ===== the law: ahead of the rules ===== -/
def tl_Gn (b x y : Int32) : Prop := (b = 1 ∧ ∃ n, 1 ≤ n ∧ n ≤ 7 ∧ x = nI n ∧ y = nI (tl_tt n)) ∨ (b = 0 ∧ (x < 1 ∨ ¬ x ≤ 7))
def tl_Go (b x4 x5 : Int32) : Prop := (b = 1 ∧ ∃ κ n, κ < 7 ∧ 1 ≤ n ∧ n ≤ 7 ∧ x4 = nI κ ∧ x5 = nI n) ∨ (b = 0 ∧ ((x4 < 0 ∨ ¬ x4 ≤ 6) ∨ (x5 < 1 ∨ ¬ x5 ≤ 7)))
theorem tl_crz {T : List (Nat × Nat × Nat × Nat)} {R : Nat → Nat} {n : Nat} (hR : ∀ j, j ≤ n → tl_rkP T R j) : ∀ j, j ≤ n → tl_prP tl_z tl_z tl_z T (fun _ => 0) j := by
  intro j hj
  obtain ⟨_, r2, r3⟩ := hR j hj
  exact ⟨show 0 < 256 by decide, fun _ => rfl, fun z => ⟨(r2 z).1, (tl_OPz 0).symm⟩, fun z => ⟨(r3 z).1, (r3 z).2.1, (tl_TPz 0 0).symm⟩⟩
section
variable {post : Int32 → St0 → Prop} {mc ms kc ks : Nat} {x0 x1 x2 x3 x4 x5 x7 x8 x9 x10 x11 x12 x14 x15 x16 z0 z1 : Int32} {T : List (Nat × Nat × Nat × Nat)} {st : List Nat} {fm fh fk fl ff fc ft : Int32} {a1 a2 a3 a4 a5 a6 a7 a8 a9 a10 a11 a12 a13 a14 a15 a16 a17 a18 a19 a20 a21 : Nat → Int32}
theorem tl_L448_no (hp : post 1 ()) (hG7 : tl_G x7 x0 2) (hG8 : tl_G x8 x3 16) (h : tl_I tl_z tl_z tl_z tl_z tl_CE T st (fm, fh, fk, fl, ff, fc, ft, a1, a2, a3, a4, a5, a6, a7, a8, a9, a10, a11, a12, a13, a14, a15, a16, a17, a18, a19, a20, a21)) (hz : z1 = z0) (hn : ¬ x15 = 0) : wL_lawOf_448 post mc ms x0 x1 x2 x3 x5 x7 x8 x14 x15 z0 z1 kc ks fm fh fk fl ff fc ft a1 a2 a3 a4 a5 a6 a7 a8 a9 a10 a11 a12 a13 a14 a15 a16 a17 a18 a19 a20 a21 := by
  unfold wL_lawOf_448
  exact br_t hz (br_f hn (tl_L496 hp hG7 hG8 h))
theorem tl_L448_yes {n k : Nat} {R : Nat → Nat} (hp : post 1 ()) (hG7 : tl_G x7 x0 2) (hG8 : tl_G x8 x3 16) (h : tl_I tl_z tl_z tl_z tl_z tl_CE T [n - 1] (fm, fh, fk, fl, ff, fc, ft, a1, a2, a3, a4, a5, a6, a7, a8, a9, a10, a11, a12, a13, a14, a15, a16, a17, a18, a19, a20, a21)) (hz : z1 = z0) (hn : x15 = 0) (hR : ∀ j, j ≤ n - 1 → tl_rkP T R j) (hk : R (n - 1) = k) (hs : (tl_nd T (n - 1)).2.2.2 = n) (e14 : x14 = nI k) (e5 : x5 = nI n) : wL_lawOf_448 post mc ms x0 x1 x2 x3 x5 x7 x8 x14 x15 z0 z1 kc ks fm fh fk fl ff fc ft a1 a2 a3 a4 a5 a6 a7 a8 a9 a10 a11 a12 a13 a14 a15 a16 a17 a18 a19 a20 a21 := by
  unfold wL_lawOf_448
  refine br_t hz (br_t hn (tl_rank h hR (fun fm fh fk fl ff fc ft a1 a2 a3 a4 a5 a6 a7 a8 a9 a10 a11 a12 a13 a14 a15 a16 a17 a18 a19 a20 a21 h => br_t (by rw [hk, e14]) ?_)))
  refine tl_size h (br_t (by rw [hs, e5]) ?_)
  refine tl_states (m := 0) h (by decide) (tl_crz hR) (fun fm fh fk fl ff fc ft a1 a2 a3 a4 a5 a6 a7 a8 a9 a10 a11 a12 a13 a14 a15 a16 a17 a18 a19 a20 a21 h => br_t rfl ?_)
  refine tl_runs (m := 1) h (by decide) (fun fm fh fk fl ff fc ft a1 a2 a3 a4 a5 a6 a7 a8 a9 a10 a11 a12 a13 a14 a15 a16 a17 a18 a19 a20 a21 h _ => br_t (tl_rs_0 4) ?_)
  exact tl_L496 hp hG7 hG8 h
theorem tl_L417 {k : Nat} (hp : post 1 ()) (hG7 : tl_G x7 x0 2) (hG8 : tl_G x8 x3 16) (hGn : tl_Gn x10 x5 x12) (hk : k < 512) (e14 : x14 = nI k) (hz0 : (x10 = 0 ∧ z0 = 9) ∨ (x10 = 1 ∧ z0 = x5)) (h : tl_I tl_z tl_z tl_z tl_z tl_CE T st (fm, fh, fk, fl, ff, fc, ft, a1, a2, a3, a4, a5, a6, a7, a8, a9, a10, a11, a12, a13, a14, a15, a16, a17, a18, a19, a20, a21)) : wL_lawOf_417 post mc ms x0 x1 x2 x3 x5 x7 x8 x10 x12 x14 z0 6 kc ks fm fh fk fl ff fc ft a1 a2 a3 a4 a5 a6 a7 a8 a9 a10 a11 a12 a13 a14 a15 a16 a17 a18 a19 a20 a21 := by
  unfold wL_lawOf_417
  rcases hGn with ⟨e10, n, n1, n7, e5, e12⟩ | ⟨e10, hb⟩
  · have ez : z0 = nI n := by
      rcases hz0 with ⟨e, _⟩ | ⟨_, e⟩
      · exact absurd (e10.symm.trans e) tl_one_ne
      · rw [e, e5]
    have hb := tl_ttlt n (by omega)
    rw [ez, e14, e12]
    by_cases c : tl_tt n ≤ k
    · refine tl_load_no (κ := 6) h (by decide) n1 n7 (by omega) (by rw [if_pos (by decide)]; exact c) (fun fm fh fk fl ff fc ft a1 a2 a3 a4 a5 a6 a7 a8 a9 a10 a11 a12 a13 a14 a15 a16 a17 a18 a19 a20 a21 h => br_f (tl_n1of e10) (br_t (nI_le c (by omega)) ?_))
      exact tl_L448_no hp hG7 hG8 h rfl (by decide)
    · obtain ⟨sp, T', h1, h2, h3, h4, R, h5, h6⟩ := tl_ex n1 n7 (show k < tl_tt n by omega)
      refine tl_load_yes (κ := 6) h (by decide) (by decide) n1 n7 (by omega) h1 h2 (fun fm fh fk fl ff fc ft a1 a2 a3 a4 a5 a6 a7 a8 a9 a10 a11 a12 a13 a14 a15 a16 a17 a18 a19 a20 a21 h => br_f (tl_n1of e10) (br_f (nI_ge (by omega) (by omega)) ?_))
      exact tl_L448_yes hp hG7 hG8 h rfl rfl h5 h6 h4 rfl e5
  · have ez : z0 = 9 := by
      rcases hz0 with ⟨_, e⟩ | ⟨e, _⟩
      · exact e
      · exact absurd (e.symm.trans e10) tl_one_ne
    rw [ez]
    exact tl_load_bad (Or.inr (Or.inr (by decide))) (br_t e10 (tl_L448_no hp hG7 hG8 h rfl (by decide)))
theorem tl_L394 (hp : post 1 ()) (hG7 : tl_G x7 x0 2) (hG8 : tl_G x8 x3 16) (hGn : tl_Gn x10 x5 x12) (h : tl_I tl_z tl_z tl_z tl_z tl_CE T st (fm, fh, fk, fl, ff, fc, ft, a1, a2, a3, a4, a5, a6, a7, a8, a9, a10, a11, a12, a13, a14, a15, a16, a17, a18, a19, a20, a21)) : wL_lawOf_394 post mc ms x0 x1 x2 x3 x5 x7 x8 x10 x12 kc ks fm fh fk fl ff fc ft a1 a2 a3 a4 a5 a6 a7 a8 a9 a10 a11 a12 a13 a14 a15 a16 a17 a18 a19 a20 a21 := by
  unfold wL_lawOf_394
  obtain ⟨k, hk, ek⟩ := pk_andE x2 (m := 511) 9 (by decide)
  refine nm_r ek (br_c (fun z => ?_) (fun z => ?_))
  · exact tl_L417 hp hG7 hG8 hGn hk rfl (Or.inl ⟨z, rfl⟩) h
  · refine tl_L417 hp hG7 hG8 hGn hk rfl (Or.inr ⟨?_, rfl⟩) h
    rcases hGn with ⟨e, _⟩ | ⟨e, _⟩
    · exact e
    · exact absurd e z
theorem tl_L365 {n : Nat} {w : List Nat} (hp : post 1 ()) (hG7 : tl_G x7 x0 2) (hG8 : tl_G x8 x3 16) (hGn : tl_Gn x10 x5 x12) (h : tl_I tl_z tl_z tl_z tl_z tl_CE T [n - 1] (fm, fh, fk, fl, ff, fc, ft, a1, a2, a3, a4, a5, a6, a7, a8, a9, a10, a11, a12, a13, a14, a15, a16, a17, a18, a19, a20, a21)) (hz : z1 = z0) (n1 : 1 ≤ n) (n7 : n ≤ 7) (e5 : x5 = nI n) (hw : tl_wr T 20 [n - 1] [] = some w) (hl : w.length = n) (h0 : w.getD 0 0 = 0) : wL_lawOf_365 post mc ms x0 x1 x2 x3 x5 x7 x8 x10 x12 z0 z1 kc ks fm fh fk fl ff fc ft a1 a2 a3 a4 a5 a6 a7 a8 a9 a10 a11 a12 a13 a14 a15 a16 a17 a18 a19 a20 a21 := by
  unfold wL_lawOf_365
  refine br_t hz ?_
  subst e5
  rw [tl_sub1 n1]
  refine tl_letter (j := n - 1) h hw (by omega) (fun fm fh fk fl ff fc ft a1 a2 a3 a4 a5 a6 a7 a8 a9 a10 a11 a12 a13 a14 a15 a16 a17 a18 a19 a20 a21 h => br_t ?_ ?_)
  · rw [hl, Nat.sub_self, h0]
    rfl
  · refine tl_letter_out (j := n) h hw (by omega) (by omega) (fun fm fh fk fl ff fc ft a1 a2 a3 a4 a5 a6 a7 a8 a9 a10 a11 a12 a13 a14 a15 a16 a17 a18 a19 a20 a21 h => br_t rfl ?_)
    exact tl_L394 hp hG7 hG8 hGn h
theorem tl_L314_no (hp : post 1 ()) (hG7 : tl_G x7 x0 2) (hG8 : tl_G x8 x3 16) (hGn : tl_Gn x10 x5 x12) (h : tl_I tl_z tl_z tl_z tl_z tl_CE T st (fm, fh, fk, fl, ff, fc, ft, a1, a2, a3, a4, a5, a6, a7, a8, a9, a10, a11, a12, a13, a14, a15, a16, a17, a18, a19, a20, a21)) (hz : z1 = z0) (hc : x11 = 0 ∨ x4 ≤ 4) : wL_lawOf_314 post mc ms x0 x1 x2 x3 x4 x5 x7 x8 x10 x11 x12 z0 z1 kc ks fm fh fk fl ff fc ft a1 a2 a3 a4 a5 a6 a7 a8 a9 a10 a11 a12 a13 a14 a15 a16 a17 a18 a19 a20 a21 := by
  unfold wL_lawOf_314
  refine br_t hz ?_
  rcases hc with c | c
  · exact br_t c (tl_L394 hp hG7 hG8 hGn h)
  · exact br_c (fun _ => tl_L394 hp hG7 hG8 hGn h) (fun _ => br_t c (tl_L394 hp hG7 hG8 hGn h))
theorem tl_L314_yes {n : Nat} {R : Nat → Nat} {w : List Nat} (hp : post 1 ()) (hG7 : tl_G x7 x0 2) (hG8 : tl_G x8 x3 16) (hGn : tl_Gn x10 x5 x12) (h : tl_I tl_z tl_z tl_z tl_z tl_CE T [n - 1] (fm, fh, fk, fl, ff, fc, ft, a1, a2, a3, a4, a5, a6, a7, a8, a9, a10, a11, a12, a13, a14, a15, a16, a17, a18, a19, a20, a21)) (hz : z1 = z0) (e11 : x11 = 1) (h4 : ¬ x4 ≤ 4) (n1 : 1 ≤ n) (n7 : n ≤ 7) (e5 : x5 = nI n) (hR : ∀ j, j ≤ n - 1 → tl_rkP T R j) (hk : R (n - 1) = 0) (hs : (tl_nd T (n - 1)).2.2.2 = n)
    (hw : tl_wr T 20 [n - 1] [] = some w) (hl : w.length = n) (ht : w.getD (n - 1) 0 = (if n = 1 then 0 else 2)) (h0 : w.getD 0 0 = 0) : wL_lawOf_314 post mc ms x0 x1 x2 x3 x4 x5 x7 x8 x10 x11 x12 z0 z1 kc ks fm fh fk fl ff fc ft a1 a2 a3 a4 a5 a6 a7 a8 a9 a10 a11 a12 a13 a14 a15 a16 a17 a18 a19 a20 a21 := by
  unfold wL_lawOf_314
  refine br_t hz (br_f (tl_n1of e11) (br_f h4 (tl_size h (br_t (by rw [hs, e5]) (tl_rank h hR (fun fm fh fk fl ff fc ft a1 a2 a3 a4 a5 a6 a7 a8 a9 a10 a11 a12 a13 a14 a15 a16 a17 a18 a19 a20 a21 h => br_t (by rw [hk]; rfl) ?_))))))
  refine tl_letter (j := 0) h hw (by omega) (fun fm fh fk fl ff fc ft a1 a2 a3 a4 a5 a6 a7 a8 a9 a10 a11 a12 a13 a14 a15 a16 a17 a18 a19 a20 a21 h => ?_)
  rw [hl, Nat.sub_zero, ht]
  refine pk_eq n 1 (fun z => ?_) (fun z => ?_) e5
  · exact tl_L365 hp hG7 hG8 hGn h (by rw [if_pos z]; rfl) n1 n7 e5 hw hl h0
  · exact tl_L365 hp hG7 hG8 hGn h (by rw [if_neg z]; rfl) n1 n7 e5 hw hl h0
theorem tl_L260 (hp : post 1 ()) (hG7 : tl_G x7 x0 2) (hG8 : tl_G x8 x3 16) (hGn : tl_Gn x10 x5 x12) (hGo : tl_Go x11 x4 x5) (h : tl_I tl_z tl_z tl_z tl_z tl_CE [] [] (fm, fh, fk, fl, ff, fc, ft, a1, a2, a3, a4, a5, a6, a7, a8, a9, a10, a11, a12, a13, a14, a15, a16, a17, a18, a19, a20, a21)) (hz : z1 = z0) : wL_lawOf_260 post mc ms x0 x1 x2 x3 x4 x5 x7 x8 x10 x11 x12 z0 z1 kc ks fm fh fk fl ff fc ft a1 a2 a3 a4 a5 a6 a7 a8 a9 a10 a11 a12 a13 a14 a15 a16 a17 a18 a19 a20 a21 := by
  unfold wL_lawOf_260
  refine br_t hz (tl_one_few h (by decide) (br_t rfl (tl_two_few h (by decide) (by decide) (br_t rfl ?_))))
  rcases hGo with ⟨e11, κ, n, hκ, n1, n7, e4, e5⟩ | ⟨e11, hb⟩
  · subst e4 e5
    have tp := tl_ttpos n (by omega) n1
    by_cases c : 4 < κ
    · obtain ⟨sp, T', h1, h2, h3, h4, R, h5, h6⟩ := tl_ex n1 n7 tp.1
      obtain ⟨w, w1, w2, w3, w4⟩ := tl_ex0 n1 n7 h1 h2
      refine tl_load_yes (k := 0) h hκ c n1 n7 tp.1 h1 h2 (fun fm fh fk fl ff fc ft a1 a2 a3 a4 a5 a6 a7 a8 a9 a10 a11 a12 a13 a14 a15 a16 a17 a18 a19 a20 a21 h => br_f (tl_n1of e11) (br_f (nI_ge (a := 4) c (by omega)) ?_))
      exact tl_L314_yes hp hG7 hG8 hGn h rfl e11 (nI_ge (a := 4) c (by omega)) n1 n7 rfl h5 h6 h4 w1 w2 w3 w4
    · refine tl_load_no (k := 0) h hκ n1 n7 (by decide) (by rw [if_neg c]; exact Nat.le_refl 0) (fun fm fh fk fl ff fc ft a1 a2 a3 a4 a5 a6 a7 a8 a9 a10 a11 a12 a13 a14 a15 a16 a17 a18 a19 a20 a21 h => br_f (tl_n1of e11) (br_t (nI_le (b := 4) (by omega) (by omega)) ?_))
      exact tl_L314_no hp hG7 hG8 hGn h rfl (Or.inr (nI_le (b := 4) (by omega) (by omega)))
  · exact tl_load_bad hb (br_t e11 (tl_L314_no hp hG7 hG8 hGn h rfl (Or.inl e11)))
theorem tl_L240 (hp : post 1 ()) (hG7 : tl_G x7 x0 2) (hG8 : tl_G x8 x3 16) (hGn : tl_Gn x10 x5 x12) (hGo : tl_Go x11 x4 x5) (h : tl_I tl_z tl_z tl_z tl_z tl_CE [] [] (fm, fh, fk, fl, ff, fc, ft, a1, a2, a3, a4, a5, a6, a7, a8, a9, a10, a11, a12, a13, a14, a15, a16, a17, a18, a19, a20, a21)) (hz : z1 = z0) : wL_lawOf_240 post mc ms x0 x1 x2 x3 x4 x5 x7 x8 x10 x11 x12 z0 z1 kc ks fm fh fk fl ff fc ft a1 a2 a3 a4 a5 a6 a7 a8 a9 a10 a11 a12 a13 a14 a15 a16 a17 a18 a19 a20 a21 := by
  unfold wL_lawOf_240
  refine br_t hz ?_
  have k7 := hG7
  rcases hG7 with ⟨e7, m, hm, e0⟩ | ⟨e7, hb7⟩
  · subst e0
    exact tl_runsE h hm (br_f (tl_n1of e7) (tl_L260 hp k7 hG8 hGn hGo h rfl))
  · exact tl_runs_bad (tl_Gle (N := 1) (by decide) hb7) (br_t e7 (tl_L260 hp k7 hG8 hGn hGo h rfl))
theorem tl_L179 (hp : post 1 ()) (hG7 : tl_G x7 x0 2) (hG8 : tl_G x8 x3 16) (hGn : tl_Gn x10 x5 x12) (hGo : tl_Go x11 x4 x5) (h : tl_I tl_z tl_z tl_z tl_z tl_CE [] [] (fm, fh, fk, fl, ff, fc, ft, a1, a2, a3, a4, a5, a6, a7, a8, a9, a10, a11, a12, a13, a14, a15, a16, a17, a18, a19, a20, a21)) (hz : z1 = z0) : wL_lawOf_179 post mc ms x0 x1 x2 x3 x4 x5 x7 x8 x10 x11 x12 z0 z1 kc ks fm fh fk fl ff fc ft a1 a2 a3 a4 a5 a6 a7 a8 a9 a10 a11 a12 a13 a14 a15 a16 a17 a18 a19 a20 a21 := by
  unfold wL_lawOf_179
  refine br_t hz (tl_sizeE h (br_t rfl (tl_letterE h (br_t rfl (tl_rankE h (br_t rfl (tl_discard h (fun fm fh fk fl ff fc ft a1 a2 a3 a4 a5 a6 a7 a8 a9 a10 a11 a12 a13 a14 a15 a16 a17 a18 a19 a20 a21 h => br_t rfl ?_))))))))
  have k7 := hG7
  rcases hG7 with ⟨e7, m, hm, e0⟩ | ⟨e7, hb7⟩
  · subst e0
    exact tl_statesE h hm (br_f (tl_n1of e7) (tl_L240 hp k7 hG8 hGn hGo h rfl))
  · exact tl_states_bad (tl_Gle (N := 1) (by decide) hb7) (br_t e7 (tl_L240 hp k7 hG8 hGn hGo h rfl))
theorem tl_L135b (hp : post 1 ()) (hG7 : tl_G x7 x0 2) (hG8 : tl_G x8 x3 16) (hG9 : tl_G x9 x4 7) (hGn : tl_Gn x10 x5 x12) (hGo : tl_Go x11 x4 x5) (h : tl_I tl_z tl_z tl_z tl_z tl_CE [] [] (fm, fh, fk, fl, ff, fc, ft, a1, a2, a3, a4, a5, a6, a7, a8, a9, a10, a11, a12, a13, a14, a15, a16, a17, a18, a19, a20, a21)) :
    wpX_least (fun r u => match u with | (fm, fh, fk, fl, ff, fc, ft, a1, a2, a3, a4, a5, a6, a7, a8, a9, a10, a11, a12, a13, a14, a15, a16, a17, a18, a19, a20, a21) => ((x9 = 0 → wL_lawOf_179 post mc ms x0 x1 x2 x3 x4 x5 x7 x8 x10 x11 x12 (-1) r kc ks fm fh fk fl ff fc ft a1 a2 a3 a4 a5 a6 a7 a8 a9 a10 a11 a12 a13 a14 a15 a16 a17 a18 a19 a20 a21) ∧ (¬ x9 = 0 → ((x4 ≤ 4 → wL_lawOf_179 post mc ms x0 x1 x2 x3 x4 x5 x7 x8 x10 x11 x12 (-4) r kc ks fm fh fk fl ff fc ft a1 a2 a3 a4 a5 a6 a7 a8 a9 a10 a11 a12 a13 a14 a15 a16 a17 a18 a19 a20 a21) ∧ (¬ x4 ≤ 4 → wL_lawOf_179 post mc ms x0 x1 x2 x3 x4 x5 x7 x8 x10 x11 x12 1 r kc ks fm fh fk fl ff fc ft a1 a2 a3 a4 a5 a6 a7 a8 a9 a10 a11 a12 a13 a14 a15 a16 a17 a18 a19 a20 a21))))) (fm, fh, fk, fl, ff, fc, ft, a1, a2, a3, a4, a5, a6, a7, a8, a9, a10, a11, a12, a13, a14, a15, a16, a17, a18, a19, a20, a21) x4 := by
  rcases hG9 with ⟨e9, κ, hκ, e4⟩ | ⟨e9, hb⟩
  · subst e4
    refine tl_least h hκ (fun fm fh fk fl ff fc ft a1 a2 a3 a4 a5 a6 a7 a8 a9 a10 a11 a12 a13 a14 a15 a16 a17 a18 a19 a20 a21 h => br_f (tl_n1of e9) (pk_le κ 4 (fun z => ?_) (fun z => ?_)))
    · exact tl_L179 hp hG7 hG8 hGn hGo h (if_neg (by omega))
    · exact tl_L179 hp hG7 hG8 hGn hGo h (if_pos z)
  · exact tl_least_bad (tl_Gle (N := 6) (by decide) hb) (br_t e9 (tl_L179 hp hG7 hG8 hGn hGo h rfl))
theorem tl_L135 (hp : post 1 ()) (hG7 : tl_G x7 x0 2) (hG8 : tl_G x8 x3 16) (hG9 : tl_G x9 x4 7) (hGn : tl_Gn x10 x5 x12) (hGo : tl_Go x11 x4 x5) (h : tl_I tl_z tl_z tl_z tl_z tl_CE [] [] (fm, fh, fk, fl, ff, fc, ft, a1, a2, a3, a4, a5, a6, a7, a8, a9, a10, a11, a12, a13, a14, a15, a16, a17, a18, a19, a20, a21))
    (hz : (((x4 < 0 ∨ ¬ x4 ≤ 6) ∨ (x5 < 1 ∨ ¬ x5 ≤ 7)) ∧ z0 = -1) ∨ (∃ κ n, κ < 7 ∧ 1 ≤ n ∧ n ≤ 7 ∧ x4 = nI κ ∧ x5 = nI n ∧ z0 = nI (if 4 < κ then tl_tt n else 0))) : wL_lawOf_135 post mc ms x0 x1 x2 x3 x4 x5 x7 x8 x9 x10 x11 x12 z0 kc ks fm fh fk fl ff fc ft a1 a2 a3 a4 a5 a6 a7 a8 a9 a10 a11 a12 a13 a14 a15 a16 a17 a18 a19 a20 a21 := by
  unfold wL_lawOf_135
  rcases hz with ⟨hb, ez⟩ | ⟨κ, n, hκ, n1, n7, e4, e5, ez⟩
  · exact tl_count_bad hb (br_t ez.symm (tl_L135b hp hG7 hG8 hG9 hGn hGo h))
  · subst e4 e5
    exact tl_countE h hκ n1 n7 (fun fm fh fk fl ff fc ft a1 a2 a3 a4 a5 a6 a7 a8 a9 a10 a11 a12 a13 a14 a15 a16 a17 a18 a19 a20 a21 h => br_t ez.symm (tl_L135b hp hG7 hG8 hG9 hGn hGo h))
theorem tl_L112 (hp : post 1 ()) (hG7 : tl_G x7 x0 2) (hG8 : tl_G x8 x3 16) (hG9 : tl_G x9 x4 7) (hGn : tl_Gn x10 x5 z0) (hGo : tl_Go x11 x4 x5) (h : tl_I tl_z tl_z tl_z tl_z tl_CE [] [] (fm, fh, fk, fl, ff, fc, ft, a1, a2, a3, a4, a5, a6, a7, a8, a9, a10, a11, a12, a13, a14, a15, a16, a17, a18, a19, a20, a21)) (h10 : x11 = 1 → x10 = 1) : wL_lawOf_112 post mc ms x0 x1 x2 x3 x4 x5 x7 x8 x9 x10 x11 z0 kc ks fm fh fk fl ff fc ft a1 a2 a3 a4 a5 a6 a7 a8 a9 a10 a11 a12 a13 a14 a15 a16 a17 a18 a19 a20 a21 := by
  unfold wL_lawOf_112
  have kGo := hGo
  rcases hGo with ⟨e11, κ, n, hκ, n1, n7, e4, e5⟩ | ⟨e11, hb⟩
  · refine br_f (tl_n1of e11) (pk_le κ 4 (fun z => ?_) (fun z => ?_) e4)
    · exact tl_L135 hp hG7 hG8 hG9 hGn kGo h (Or.inr ⟨κ, n, hκ, n1, n7, e4, e5, by rw [if_neg (by omega)]; rfl⟩)
    · refine tl_L135 hp hG7 hG8 hG9 hGn kGo h (Or.inr ⟨κ, n, hκ, n1, n7, e4, e5, ?_⟩)
      rw [if_pos z]
      rcases hGn with ⟨_, n', m1, m7, k5, kz⟩ | ⟨e, _⟩
      · rw [kz, tl_inj (by omega) (by omega) (k5.symm.trans e5)]
      · exact absurd ((h10 e11).symm.trans e) tl_one_ne
  · exact br_t e11 (tl_L135 hp hG7 hG8 hG9 hGn kGo h (Or.inl ⟨hb, rfl⟩))
theorem tl_total {pst : Int32 → Prop} {n : Nat} (n1 : 1 ≤ n) (n7 : n ≤ 7) (H : pst (nI (tl_tt n))) : wpL_total pst () (nI n) := by
  unfold wpL_total
  have c : n = 1 ∨ n = 2 ∨ n = 3 ∨ n = 4 ∨ n = 5 ∨ n = 6 ∨ n = 7 := by omega
  rcases c with rfl | rfl | rfl | rfl | rfl | rfl | rfl <;>
    (repeat' first | exact H | refine br_t (by decide) ?_ | refine br_f (by decide) ?_)
/-- x5's flag while x12 isn't there yet -/
def tl_Gm (b x : Int32) : Prop := (b = 1 ∧ ∃ n, 1 ≤ n ∧ n ≤ 7 ∧ x = nI n) ∨ (b = 0 ∧ (x < 1 ∨ ¬ x ≤ 7))
theorem tl_L96 (hp : post 1 ()) (hG7 : tl_G x7 x0 2) (hG8 : tl_G x8 x3 16) (hG9 : tl_G x9 x4 7) (hGm : tl_Gm x10 x5) (hGo : tl_Go z0 x4 x5) (h : tl_I tl_z tl_z tl_z tl_z tl_CE [] [] (fm, fh, fk, fl, ff, fc, ft, a1, a2, a3, a4, a5, a6, a7, a8, a9, a10, a11, a12, a13, a14, a15, a16, a17, a18, a19, a20, a21)) (h10 : z0 = 1 → x10 = 1) : wL_lawOf_96 post mc ms x0 x1 x2 x3 x4 x5 x7 x8 x9 x10 z0 kc ks fm fh fk fl ff fc ft a1 a2 a3 a4 a5 a6 a7 a8 a9 a10 a11 a12 a13 a14 a15 a16 a17 a18 a19 a20 a21 := by
  unfold wL_lawOf_96
  rcases hGm with ⟨e10, n, n1, n7, e5⟩ | ⟨e10, hb⟩
  · subst e5
    exact br_f (tl_n1of e10) (tl_total n1 n7 (tl_L112 hp hG7 hG8 hG9 (Or.inl ⟨e10, n, n1, n7, rfl, rfl⟩) hGo h h10))
  · exact br_t e10 (tl_L112 hp hG7 hG8 hG9 (Or.inr ⟨e10, hb⟩) hGo h h10)
theorem tl_L79 (hp : post 1 ()) (hG7 : tl_G x7 x0 2) (hG8 : tl_G x8 x3 16) (hG9 : tl_G x9 x4 7) (hGm : tl_Gm z0 x5) (h : tl_I tl_z tl_z tl_z tl_z tl_CE [] [] (fm, fh, fk, fl, ff, fc, ft, a1, a2, a3, a4, a5, a6, a7, a8, a9, a10, a11, a12, a13, a14, a15, a16, a17, a18, a19, a20, a21)) : wL_lawOf_79 post mc ms x0 x1 x2 x3 x4 x5 x7 x8 x9 z0 kc ks fm fh fk fl ff fc ft a1 a2 a3 a4 a5 a6 a7 a8 a9 a10 a11 a12 a13 a14 a15 a16 a17 a18 a19 a20 a21 := by
  unfold wL_lawOf_79
  have k9 := hG9
  have kGm := hGm
  rcases hG9 with ⟨e9, κ, hκ, e4⟩ | ⟨e9, hb9⟩
  · rcases hGm with ⟨e10, n, n1, n7, e5⟩ | ⟨e10, hb⟩
    · exact br_f (tl_n1of e9) (br_f (tl_n1of e10) (tl_L96 hp hG7 hG8 k9 kGm (Or.inl ⟨rfl, κ, n, hκ, n1, n7, e4, e5⟩) h (fun _ => e10)))
    · refine br_f (tl_n1of e9) (br_t e10 ?_)
      unfold wL_lawOf_95
      exact tl_L96 hp hG7 hG8 k9 kGm (Or.inr ⟨rfl, Or.inr hb⟩) h (fun z => absurd z.symm tl_one_ne)
  · refine br_t e9 ?_
    unfold wL_lawOf_95
    exact tl_L96 hp hG7 hG8 k9 kGm (Or.inr ⟨rfl, Or.inl (tl_Gle (N := 6) (by decide) hb9)⟩) h (fun z => absurd z.symm tl_one_ne)
theorem tl_7lt {x : Int32} (h : 7 < x) : ¬ x ≤ 7 := by
  intro k
  have k1 := Int32.lt_iff_toInt_lt.mp h
  have k2 := Int32.le_iff_toInt_le.mp k
  omega
theorem tl_Gm_mk {x : Int32} (h1 : ¬ x < 1) (h7 : ¬ 7 < x) : tl_Gm 1 x := by
  rcases pk_ix x (show 8 < 2 ^ 31 by decide) with k | k | ⟨j, hj, k⟩
  · refine absurd (Int32.lt_iff_toInt_lt.mpr ?_) h1
    have k1 := Int32.lt_iff_toInt_lt.mp k
    have e0 : (0 : Int32).toInt = 0 := by decide
    have e1 : (1 : Int32).toInt = 1 := by decide
    omega
  · refine absurd (Int32.lt_iff_toInt_lt.mpr ?_) h7
    have k1 := Int32.le_iff_toInt_le.mp k
    have e0 : (nI 8).toInt = 8 := by decide
    have e1 : (7 : Int32).toInt = 7 := by decide
    omega
  · refine Or.inl ⟨rfl, j, ?_, by omega, k⟩
    by_cases c : j = 0
    · subst c
      exact absurd (show x < 1 by rw [k]; decide) h1
    · omega
theorem tl_L59 (hp : post 1 ()) (hG7 : tl_G x7 x0 2) (hG8 : tl_G x8 x3 16) (hG9 : tl_G z0 x4 7) (h : tl_I tl_z tl_z tl_z tl_z tl_CE [] [] (fm, fh, fk, fl, ff, fc, ft, a1, a2, a3, a4, a5, a6, a7, a8, a9, a10, a11, a12, a13, a14, a15, a16, a17, a18, a19, a20, a21)) : wL_lawOf_59 post mc ms x0 x1 x2 x3 x4 x5 x7 x8 z0 kc ks fm fh fk fl ff fc ft a1 a2 a3 a4 a5 a6 a7 a8 a9 a10 a11 a12 a13 a14 a15 a16 a17 a18 a19 a20 a21 := by
  unfold wL_lawOf_59
  refine br_c (fun z => ?_) (fun z => br_c (fun z2 => ?_) (fun z2 => ?_))
  · unfold wL_lawOf_78
    exact tl_L79 hp hG7 hG8 hG9 (Or.inr ⟨rfl, Or.inl z⟩) h
  · unfold wL_lawOf_78
    exact tl_L79 hp hG7 hG8 hG9 (Or.inr ⟨rfl, Or.inr (tl_7lt z2)⟩) h
  · exact tl_L79 hp hG7 hG8 hG9 (tl_Gm_mk z z2) h
theorem tl_L40 (hp : post 1 ()) (hG7 : tl_G x7 x0 2) (hG8 : tl_G z0 x3 16) (h : tl_I tl_z tl_z tl_z tl_z tl_CE [] [] (fm, fh, fk, fl, ff, fc, ft, a1, a2, a3, a4, a5, a6, a7, a8, a9, a10, a11, a12, a13, a14, a15, a16, a17, a18, a19, a20, a21)) : wL_lawOf_40 post mc ms x0 x1 x2 x3 x4 x5 x7 z0 kc ks fm fh fk fl ff fc ft a1 a2 a3 a4 a5 a6 a7 a8 a9 a10 a11 a12 a13 a14 a15 a16 a17 a18 a19 a20 a21 := by
  unfold wL_lawOf_40
  refine br_c (fun z => ?_) (fun z => br_c (fun z2 => ?_) (fun z2 => ?_))
  · unfold wL_lawOf_58
    exact tl_L59 hp hG7 hG8 (Or.inr ⟨rfl, Or.inl z⟩) h
  · unfold wL_lawOf_58
    exact tl_L59 hp hG7 hG8 (Or.inr ⟨rfl, Or.inr z2⟩) h
  · exact tl_L59 hp hG7 hG8 (tl_Gmk (by decide) z z2) h
theorem tl_L23 (hp : post 1 ()) (hG7 : tl_G z0 x0 2) (h : tl_I tl_z tl_z tl_z tl_z tl_CE [] [] (fm, fh, fk, fl, ff, fc, ft, a1, a2, a3, a4, a5, a6, a7, a8, a9, a10, a11, a12, a13, a14, a15, a16, a17, a18, a19, a20, a21)) : wL_lawOf_23 post mc ms x0 x1 x2 x3 x4 x5 z0 kc ks fm fh fk fl ff fc ft a1 a2 a3 a4 a5 a6 a7 a8 a9 a10 a11 a12 a13 a14 a15 a16 a17 a18 a19 a20 a21 := by
  unfold wL_lawOf_23
  refine br_c (fun z => ?_) (fun z => br_c (fun z2 => ?_) (fun z2 => ?_))
  · unfold wL_lawOf_39
    exact tl_L40 hp hG7 (Or.inr ⟨rfl, Or.inl z⟩) h
  · unfold wL_lawOf_39
    exact tl_L40 hp hG7 (Or.inr ⟨rfl, Or.inr z2⟩) h
  · exact tl_L40 hp hG7 (tl_Gmk (by decide) z z2) h
end
end
section
theorem tl_new {s : Nat → Int32} (hs : ∀ j, j < 13 → s j = nI (tl_tt j)) : tl_I tl_z tl_z tl_z tl_z tl_CE [] [] (0, 0, 0, 0, 0, 0, 0, fun _ => 0, fun _ => 0, fun _ => 0, fun _ => 0, fun _ => 0, fun _ => 0, fun _ => 0, fun _ => 0, fun _ => 0, fun _ => 0, fun _ => 0, fun _ => 0, fun _ => 0, fun _ => 0, s, fun _ => 0, fun _ => 0, fun _ => 0, fun _ => 0, fun _ => 0, fun _ => 0) :=
  ⟨⟨fun _ _ => ⟨rfl, show 0 < 16 by decide⟩, fun _ _ => ⟨rfl, show 0 < 16 by decide⟩, fun _ _ => ⟨rfl, show 0 < 16 by decide⟩, fun _ _ => ⟨rfl, show 0 < 16 by decide⟩⟩, fun z => absurd rfl z, hs, rfl, rfl, show 0 ≤ 12 by decide, show 0 ≤ 0 by decide, fun _ z => (nomatch z), trivial, fun j hj => absurd hj (Nat.not_lt_zero j)⟩
theorem tl_lawOf {post : Int32 → St0 → Prop} {x0 x1 x2 x3 x4 x5 : Int32} (hp : post 1 ()) : wpL_lawOf post 30 5000 () x0 x1 x2 x3 x4 x5 := by
  unfold wpL_lawOf
  refine ⟨by omega, by omega, 21, 4347, by omega, by omega, tl_init (by omega) (by omega) (fun s hs => ?_)⟩
  refine br_c (fun z => ?_) (fun z => br_c (fun z2 => ?_) (fun z2 => ?_))
  · unfold wL_lawOf_18
    exact tl_L23 hp (Or.inl ⟨rfl, 0, by decide, z⟩) (tl_new hs)
  · unfold wL_lawOf_18
    exact tl_L23 hp (Or.inl ⟨rfl, 1, by decide, z2⟩) (tl_new hs)
  · exact tl_L23 hp (tl_G2no z z2) (tl_new hs)
theorem tl_cell {post : Int32 → Prop} {L k : Nat} {xs : Nat → Int32} (hL : L ≤ 6) (hk : k < 6) (H : ∀ r, post r) : wpL_cellAt post L xs () (nI k) :=
  pk_le L k (fun _ => H _) (fun z => ⟨pk_in k L z, H _⟩)
theorem i_vc (xs : Nat → Int32) (L : Nat) (hL : L ≤ 6) : wpL_law (fun r => r = 1) L xs := by
  unfold wpL_law
  refine tl_cell (k := 0) hL (by omega) (fun _ => tl_cell (k := 1) hL (by omega) (fun _ => tl_cell (k := 2) hL (by omega) (fun _ => tl_cell (k := 3) hL (by omega) (fun _ => tl_cell (k := 4) hL (by omega) (fun _ => tl_cell (k := 5) hL (by omega) (fun _ => ?_))))))
  exact ⟨30, 5000, by omega, by omega, tl_lawOf rfl⟩
end
