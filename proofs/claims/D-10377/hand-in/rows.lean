section
/-! sets of variables as masks below 32: deleting, inserting, the rest, how many -/
def qf_d (s v : Nat) : Nat := if s.testBit v then s - 2 ^ v else s
def qf_i (s v : Nat) : Nat := s ||| 2 ^ v
def qf_c (n s : Nat) : Nat := 2 ^ n - 1 - s
def qf_oc (b : Nat) : Nat → Nat
  | 0 => 0
  | i + 1 => qf_oc b i + b / 2 ^ i % 2
def qf_o (b : Nat) : Nat := qf_oc b 5
theorem qf_bit : ∀ s, s < 32 → ∀ v, v < 5 → (((((nI s).toUInt32 >>> ((nI v).toUInt32 &&& Int32.toUInt32 31)).toInt32) &&& 1) = 0 ↔ s.testBit v = false) := by decide +kernel
theorem qf_del : ∀ s, s < 32 → ∀ v, v < 5 → nI s &&& (((1 : Int32) <<< (nI v &&& 31)) ^^^ (-1)) = nI (qf_d s v) := by decide +kernel
theorem qf_cmp : ∀ n, n < 6 → ∀ s, s < 2 ^ n → nI (2 ^ n - 1) &&& (nI s ^^^ (-1)) = nI (qf_c n s) := by decide +kernel
theorem qf_ins : ∀ s, s < 32 → ∀ v, v < 5 → nI s ||| ((1 : Int32) <<< (nI v &&& 31)) = nI (qf_i s v) := by decide +kernel
theorem qf_fix : ∀ n, n < 6 → ∀ b, b < 2 ^ n → ∀ v, v < n → nI (2 ^ n - 1) &&& ((nI b ||| ((1 : Int32) <<< (nI v &&& 31))) ^^^ (-1)) = nI (qf_c n (qf_i b v)) ∧ qf_c n (qf_i b v) < 31 := by decide +kernel
theorem qf_bef : ∀ n, n < 6 → ∀ b, b < 2 ^ n → ∀ v, v < n → (nI (2 ^ n - 1) &&& (nI b ^^^ (-1))) &&& (((1 : Int32) <<< (nI v &&& 31)) ^^^ (-1)) = nI (qf_c n (qf_i b v)) := by decide +kernel
theorem qf_on1 : ∀ b, b < 32 → ∀ i, i < 5 → nI (qf_oc b i) + ((((nI b).toUInt32 >>> ((nI i).toUInt32 &&& Int32.toUInt32 31)).toInt32) &&& 1) = nI (qf_oc b (i + 1)) := by decide +kernel
theorem qf_full : ∀ n, n < 6 → ((1 : Int32) <<< (nI n &&& 31)) - 1 = nI (2 ^ n - 1) := by decide +kernel
theorem qf_ix (b v : Nat) : 5 * nI b + nI v = nI (5 * b + v) := by
  rw [show (5 : Int32) = nI 5 from rfl, pk_mul, nI_add]
theorem qf_pn : ∀ n, n < 6 → 2 ^ n ≤ 32 ∧ 1 ≤ 2 ^ n := by decide +kernel
/-! pure facts of the masks -/
theorem qf_dl1 : ∀ n, n < 6 → ∀ s, s < 2 ^ n → ∀ v, v < n → s.testBit v = true → qf_d s v < s := by decide +kernel
theorem qf_dl2 : ∀ n, n < 6 → ∀ s, s < 2 ^ n → ∀ v, v < n → s.testBit v = true → (qf_d s v).testBit v = false := by decide +kernel
theorem qf_dl3 : ∀ n, n < 6 → ∀ s, s < 2 ^ n → ∀ v, v < n → s.testBit v = true → qf_i (qf_d s v) v = s := by decide +kernel
theorem qf_dl4 : ∀ n, n < 6 → ∀ s, s < 2 ^ n → ∀ v, v < n → s.testBit v = true → qf_o s = qf_o (qf_d s v) + 1 := by decide +kernel
theorem qf_dl (n : Nat) (hn : n < 6) (s : Nat) (hs : s < 2 ^ n) (v : Nat) (hv : v < n) (h : s.testBit v = true) : qf_d s v < s ∧ (qf_d s v).testBit v = false ∧ qf_i (qf_d s v) v = s ∧ qf_o s = qf_o (qf_d s v) + 1 :=
  ⟨qf_dl1 n hn s hs v hv h, qf_dl2 n hn s hs v hv h, qf_dl3 n hn s hs v hv h, qf_dl4 n hn s hs v hv h⟩
theorem qf_in1 : ∀ n, n < 6 → ∀ s, s < 2 ^ n → ∀ v, v < n → s.testBit v = false → qf_i s v < 2 ^ n := by decide +kernel
theorem qf_in2 : ∀ n, n < 6 → ∀ s, s < 2 ^ n → ∀ v, v < n → s.testBit v = false → (qf_i s v).testBit v = true := by decide +kernel
theorem qf_in3 : ∀ n, n < 6 → ∀ s, s < 2 ^ n → ∀ v, v < n → s.testBit v = false → qf_d (qf_i s v) v = s := by decide +kernel
theorem qf_in4 : ∀ n, n < 6 → ∀ s, s < 2 ^ n → ∀ v, v < n → s.testBit v = false → 0 < qf_i s v := by decide +kernel
theorem qf_in5 : ∀ n, n < 6 → ∀ s, s < 2 ^ n → ∀ v, v < n → s.testBit v = false → qf_o (qf_i s v) = qf_o s + 1 := by decide +kernel
theorem qf_in (n : Nat) (hn : n < 6) (s : Nat) (hs : s < 2 ^ n) (v : Nat) (hv : v < n) (h : s.testBit v = false) : qf_i s v < 2 ^ n ∧ (qf_i s v).testBit v = true ∧ qf_d (qf_i s v) v = s ∧ 0 < qf_i s v ∧ qf_o (qf_i s v) = qf_o s + 1 :=
  ⟨qf_in1 n hn s hs v hv h, qf_in2 n hn s hs v hv h, qf_in3 n hn s hs v hv h, qf_in4 n hn s hs v hv h, qf_in5 n hn s hs v hv h⟩
theorem qf_co : ∀ n, n < 6 → ∀ s, s < 2 ^ n → qf_c n s < 2 ^ n ∧ qf_c n (qf_c n s) = s ∧ qf_o (qf_c n s) + qf_o s = n := by decide +kernel
theorem qf_cb : ∀ n, n < 6 → ∀ s, s < 2 ^ n → ∀ v, v < n → (qf_c n s).testBit v = !s.testBit v := by decide +kernel
theorem qf_cd : ∀ n, n < 6 → ∀ s, s < 2 ^ n → ∀ v, v < n → s.testBit v = true → qf_c n (qf_d s v) = qf_i (qf_c n s) v := by decide +kernel
theorem qf_ci : ∀ n, n < 6 → ∀ s, s < 2 ^ n → ∀ v, v < n → s.testBit v = false → qf_c n (qf_i s v) = qf_d (qf_c n s) v := by decide +kernel
theorem qf_ex : ∀ n, n < 6 → ∀ s, s < 2 ^ n → 0 < s → ∃ v, v < n ∧ s.testBit v = true := by decide +kernel
theorem qf_on5 : ∀ s, s < 32 → qf_o s ≤ 5 := by decide +kernel
theorem qf_on0 : qf_o 0 = 0 := by decide +kernel
theorem qf_onF : ∀ n, n < 6 → ∀ s, s < 2 ^ n → qf_o s = n → s = 2 ^ n - 1 := by decide +kernel
theorem qf_onN : ∀ n, n < 6 → ∀ s, s < 2 ^ n → qf_o s < n → 0 < qf_c n s := by decide +kernel
theorem qf_c0 (n : Nat) : qf_c n 0 = 2 ^ n - 1 := rfl
theorem qf_dle (s v : Nat) : qf_d s v ≤ s := by
  unfold qf_d
  split
  · exact Nat.sub_le _ _
  · exact Nat.le_refl _
/-! the submask walk ends in at most sixteen steps -/
def qf_orb (m : Int32) : Nat → Int32
  | 0 => 0
  | k + 1 => (qf_orb m k - m) &&& m
theorem qf_orbE : ∀ m, m < 31 → ∃ k, k < 16 ∧ qf_orb (nI m) k = nI m := by decide +kernel
/-! arrays as whole numbers -/
def qf_W (a : Nat → Int32) (b v : Nat) : Int := (a (5 * b + v)).toInt
def qf_V (a : Nat → Int32) (s : Nat) : Int := (a s).toInt
def qf_w (a : Nat → Int32) : Prop := ∀ j, 0 ≤ (a j).toInt ∧ (a j).toInt ≤ 48
theorem qf_wu {a : Nat → Int32} {k c : Nat} {x : Int32} (h : qf_w a) (hx : x = nI c) (hc : c ≤ 48) : qf_w (upd a k x) := by
  intro j
  by_cases e : j = k
  · rw [e, pk_us, hx, nI_toInt (by omega)]
    omega
  · rw [pk_un e]
    exact h j
theorem qf_add {x y : Int32} (h1 : 0 ≤ x.toInt) (h2 : x.toInt ≤ 100000) (h3 : 0 ≤ y.toInt) (h4 : y.toInt ≤ 100000) : (x + y).toInt = x.toInt + y.toInt :=
  Jvm.Kit.i32_add (by omega) (by omega)
theorem qf_le {x y : Int32} : x ≤ y ↔ x.toInt ≤ y.toInt := Int32.le_iff_toInt_le
theorem qf_lt {x y : Int32} : x < y ↔ x.toInt < y.toInt := Int32.lt_iff_toInt_lt
theorem qf_eqI {x y : Int32} : x = y ↔ x.toInt = y.toInt := Int32.toInt_inj.symm
theorem qf_1000 : (1000 : Int32).toInt = 1000 := by decide +kernel
theorem qf_0 : (0 : Int32).toInt = 0 := by decide +kernel
end
section
section
variable {post : St2 → Prop} {fn ff fk : Int32} {c : Nat} {a1 a2 a3 a4 a5 a6 a7 : Nat → Int32}
theorem qf_keep7 {x : Int32} (hc : c < 64) (hp : ∀ (c' : Nat) (b : Nat → Int32), c' ≤ c + 1 → post (fn, ff, fk, nI c', a1, a2, a3, a4, a5, a6, b)) :
    ∃ n, wX_keepRest_7 post x fn ff fk (nI c) a1 a2 a3 a4 a5 a6 a7 n 0 :=
  pk_loop (σ := Unit) (fun n i _ => wX_keepRest_7 post x fn ff fk (nI c) a1 a2 a3 a4 a5 a6 a7 n (nI i)) (fun _ _ => True) c 0 () (by omega) trivial
    (fun n _ _ => pk_le c c (fun _ => ⟨pk_in c 64 hc, nm_e (nm_r (nI_1 c) (hp (c + 1) _ (by omega)))⟩) (fun z => absurd z (by omega)))
    (fun n i _ hi _ hw => pk_le c i (fun z => absurd z (by omega)) (fun _ => ⟨pk_in i 64 (by omega), br_c (fun _ => hp c _ (by omega)) (fun _ => nm_r (nI_1 i) (hw () trivial))⟩))
theorem qf_keep {x d : Int32} (hc : c < 64) (hp : ∀ (c' : Nat) (b : Nat → Int32), c' ≤ c + 1 → post (fn, ff, fk, nI c', a1, a2, a3, a4, a5, a6, b)) :
    wpX_keepRest post (fn, ff, fk, nI c, a1, a2, a3, a4, a5, a6, a7) x d :=
  br_c (fun _ => hp c a7 (by omega)) (fun _ => qf_keep7 hc hp)
theorem qf_a64 {J : Int32 → Int32 → Int32 → Int32 → Int32 → Prop} {x1 x2 x3 x4 x5 x7 x8 x9 x10 z0 y : Int32} (hy : x9 + 1 = y) (hc : c < 64) (hp : ∀ (c' : Nat) (b : Nat → Int32), c' ≤ c + 1 → post (fn, ff, fk, nI c', a1, a2, a3, a4, a5, a6, b))
    (hJ : ∀ r z p a, J r z p a y) :
    wX_addRest_64 post J x1 x2 x3 x4 x5 x7 x8 x9 x10 z0 fn ff fk (nI c) a1 a2 a3 a4 a5 a6 a7 :=
  nm_e (nm_e (br_c (fun _ => qf_keep hc hp) (fun _ => nm_e (nm_r hy (hJ _ _ _ _)))))
theorem qf_a59 {J : Int32 → Int32 → Int32 → Int32 → Int32 → Prop} {x1 x2 x3 x4 x5 x7 x8 x9 x10 y : Int32} (hy : x9 + 1 = y) (hc : c < 64) (hp : ∀ (c' : Nat) (b : Nat → Int32), c' ≤ c + 1 → post (fn, ff, fk, nI c', a1, a2, a3, a4, a5, a6, b))
    (hJ : ∀ r z p a, J r z p a y) :
    wX_addRest_59 post J x1 x2 x3 x4 x5 x7 x8 x9 x10 fn ff fk (nI c) a1 a2 a3 a4 a5 a6 a7 := by
  unfold wX_addRest_59
  exact qf_a64 hy hc hp hJ
theorem qf_a15 {x1 x2 x3 x4 : Int32} (hc : c < 64) (hp : ∀ (c' : Nat) (b : Nat → Int32), c' ≤ c + 1 → post (fn, ff, fk, nI c', a1, a2, a3, a4, a5, a6, b)) :
    ∃ n, wX_addRest_15 post x1 x2 x3 x4 fn ff fk (nI c) a1 a2 a3 a4 a5 a6 a7 n 0 0 0 0 0 :=
  pk_loop (σ := Int32 × Int32 × Int32 × Int32) (fun n i s => wX_addRest_15 post x1 x2 x3 x4 fn ff fk (nI c) a1 a2 a3 a4 a5 a6 a7 n s.1 s.2.1 s.2.2.1 s.2.2.2 (nI i)) (fun _ _ => True) 32 0 (0, 0, 0, 0) (by omega) trivial
    (fun n s _ => pk_le 32 32 (fun _ => hp c a7 (by omega)) (fun z => absurd z (by omega)))
    (fun n i s hi _ hw => pk_le 32 i (fun z => absurd z (by omega)) (fun _ => nm_e (nm_e (br_c
      (fun _ => br_c (fun _ => qf_a64 (nI_1 i) hc hp (fun r z p a => hw (r, z, p, a) trivial)) (fun _ => qf_a59 (nI_1 i) hc hp (fun r z p a => hw (r, z, p, a) trivial)))
      (fun _ => qf_a59 (nI_1 i) hc hp (fun r z p a => hw (r, z, p, a) trivial))))))
theorem qf_addR {x1 x2 x3 x4 : Int32} (hc : c < 64) (hp : ∀ (c' : Nat) (b : Nat → Int32), c' ≤ c + 1 → post (fn, ff, fk, nI c', a1, a2, a3, a4, a5, a6, b)) :
    wpX_addRest post (fn, ff, fk, nI c, a1, a2, a3, a4, a5, a6, a7) x1 x2 x3 x4 :=
  qf_a15 hc hp
end
section
variable {post : Int32 → St2 → Prop} {fn ff fk fo : Int32} {a1 a2 a3 a4 a5 a6 a7 : Nat → Int32}
theorem qf_c37 {J : Int32 → Int32 → Int32 → Int32 → Int32 → Int32 → (Nat → Int32) → (Nat → Int32) → (Nat → Int32) → (Nat → Int32) → (Nat → Int32) → (Nat → Int32) → (Nat → Int32) → Prop} {x2 x3 x4 x5 x6 : Int32} {c0 : Nat} (hc : c0 ≤ 45)
    (hp : ∀ (c : Nat) (b : Nat → Int32), c ≤ c0 + 3 → x5 = x4 → post (nI c) (fn, ff, fk, nI c, a1, a2, a3, a4, a5, a6, b))
    (hJ : ∀ (c : Nat) (b : Nat → Int32), c ≤ c0 + 3 → ¬ x5 = x4 → J ((x5 - x4) &&& x4) (x6 + 1) fn ff fk (nI c) a1 a2 a3 a4 a5 a6 b) :
    ∃ n, wX_countRests_37 post J x2 x3 x4 x5 x6 n 0 fn ff fk (nI c0) a1 a2 a3 a4 a5 a6 a7 :=
  pk_loop (σ := Nat × (Nat → Int32)) (fun n i s => wX_countRests_37 post J x2 x3 x4 x5 x6 n (nI i) fn ff fk (nI s.1) a1 a2 a3 a4 a5 a6 s.2) (fun i s => s.1 ≤ c0 + i) 3 0 (c0, a7) (by omega) (Nat.le_refl _)
    (fun n s h => pk_le 3 3 (fun _ => br_c (fun e => hp s.1 s.2 h e) (fun e => nm_e (nm_e (hJ s.1 s.2 h e)))) (fun z => absurd z (by omega)))
    (fun n i s hi h hw => pk_le 3 i (fun z => absurd z (by omega)) (fun _ => ⟨pk_in i 3 hi, qf_addR (by have h' : s.1 ≤ c0 + i := h; omega) (fun c' b hc' => nm_r (nI_1 i) (hw (c', b) (by have h' : s.1 ≤ c0 + i := h; show c' ≤ c0 + (i + 1); omega)))⟩))
theorem qf_c27 {x2 x3 : Int32} {m : Nat} (hm : m < 31) (hp : ∀ (c : Nat) (b : Nat → Int32), c ≤ 48 → post (nI c) (fn, ff, fk, nI c, a1, a2, a3, a4, a5, a6, b)) :
    ∃ n, wX_countRests_27 post x2 x3 (nI m) n 0 0 fn ff fk 0 a1 a2 a3 a4 a5 a6 a7 := by
  obtain ⟨K, hK, hE⟩ := qf_orbE m hm
  exact pk_loop (σ := Nat × (Nat → Int32)) (fun n i s => wX_countRests_27 post x2 x3 (nI m) n (qf_orb (nI m) i) (nI i) fn ff fk (nI s.1) a1 a2 a3 a4 a5 a6 s.2) (fun i s => s.1 ≤ 3 * i) K 0 (0, a7) (by omega) (Nat.le_refl _)
    (fun n s h => pk_le 32 K (fun z => absurd z (by omega)) (fun _ => qf_c37 (by have h' : s.1 ≤ 3 * K := h; omega) (fun c b hc _ => hp c b (by have h' : s.1 ≤ 3 * K := h; omega)) (fun c b hc ne => absurd hE ne)))
    (fun n i s hi h hw => pk_le 32 i (fun z => absurd z (by omega)) (fun _ => qf_c37 (by have h' : s.1 ≤ 3 * i := h; omega) (fun c b hc _ => hp c b (by have h' : s.1 ≤ 3 * i := h; omega)) (fun c b hc _ => by
      have h' : s.1 ≤ 3 * i := h
      have t := hw (c, b) (by show c ≤ 3 * (i + 1); omega)
      rw [nI_1]
      exact t)))
theorem qf_cnt {n b v : Nat} (hn : n < 6) (hb : b < 2 ^ n) (hv : v < n) (hp : ∀ (c : Nat) (b : Nat → Int32), c ≤ 48 → post (nI c) (nI n, nI (2 ^ n - 1), fk, nI c, a1, a2, a3, a4, a5, a6, b)) :
    wpX_countRests post (nI n, nI (2 ^ n - 1), fk, fo, a1, a2, a3, a4, a5, a6, a7) (nI b) (nI v) :=
  fun x3 e3 => nm_r (by rw [e3]; exact (qf_fix n hn b hb v hv).1) (qf_c27 (qf_fix n hn b hb v hv).2 hp)
end
end
section
/-! running least and greatest over the members of the set t -/
def qf_mn (t : Nat) (l : Nat → Int) (i : Nat) (x : Int) : Prop :=
  0 ≤ x ∧ x ≤ 1000 ∧ (∀ v, v < i → t.testBit v = true → x ≤ l v) ∧ ((x = 1000 ∧ ∀ v, v < i → t.testBit v = false) ∨ ∃ v, v < i ∧ t.testBit v = true ∧ x = l v)
def qf_mx (t : Nat) (g : Nat → Int) (C : Int) (i : Nat) (y : Int) : Prop := 0 ≤ y ∧ y ≤ C ∧ ∀ v, v < i → t.testBit v = true → g v ≤ y
theorem qf_mn0 (t : Nat) (l : Nat → Int) : qf_mn t l 0 1000 :=
  ⟨by decide, by decide, fun v hv => absurd hv (by omega), Or.inl ⟨rfl, fun v hv => absurd hv (by omega)⟩⟩
theorem qf_mnN {t : Nat} {l : Nat → Int} {i : Nat} {x : Int} (h : qf_mn t l i x) (hb : t.testBit i = false) : qf_mn t l (i + 1) x := by
  obtain ⟨h0, h1, h2, h3⟩ := h
  refine ⟨h0, h1, fun v hv hx => ?_, ?_⟩
  · by_cases e : v = i
    · rw [e, hb] at hx
      exact absurd hx (by decide)
    · exact h2 v (by omega) hx
  · rcases h3 with ⟨a, b⟩ | ⟨v, a, b, c⟩
    · refine Or.inl ⟨a, fun v hv => ?_⟩
      by_cases e : v = i
      · rw [e]
        exact hb
      · exact b v (by omega)
    · exact Or.inr ⟨v, by omega, b, c⟩
theorem qf_mnK {t : Nat} {l : Nat → Int} {i : Nat} {x : Int} (h : qf_mn t l i x) (hl : l i < 1000) (hx : x ≤ l i) : qf_mn t l (i + 1) x := by
  obtain ⟨h0, h1, h2, h3⟩ := h
  refine ⟨h0, h1, fun v hv hb => ?_, ?_⟩
  · by_cases e : v = i
    · rw [e]
      exact hx
    · exact h2 v (by omega) hb
  · rcases h3 with ⟨a, b⟩ | ⟨v, a, b, c⟩
    · omega
    · exact Or.inr ⟨v, by omega, b, c⟩
theorem qf_mnS {t : Nat} {l : Nat → Int} {i : Nat} {x : Int} (h : qf_mn t l i x) (hb : t.testBit i = true) (h0 : 0 ≤ l i) (hx : l i < x) : qf_mn t l (i + 1) (l i) := by
  obtain ⟨_, h1, h2, h3⟩ := h
  refine ⟨h0, by omega, fun v hv hb' => ?_, Or.inr ⟨i, by omega, hb, rfl⟩⟩
  by_cases e : v = i
  · rw [e]
    exact Int.le_refl _
  · have := h2 v (by omega) hb'
    omega
theorem qf_mx0 (t : Nat) (g : Nat → Int) (C : Int) (hC : 0 ≤ C) : qf_mx t g C 0 0 := ⟨by decide, hC, fun v hv => absurd hv (by omega)⟩
theorem qf_mxN {t : Nat} {g : Nat → Int} {C : Int} {i : Nat} {y : Int} (h : qf_mx t g C i y) (hb : t.testBit i = false) : qf_mx t g C (i + 1) y := by
  obtain ⟨h0, h1, h2⟩ := h
  refine ⟨h0, h1, fun v hv hx => ?_⟩
  by_cases e : v = i
  · rw [e, hb] at hx
    exact absurd hx (by decide)
  · exact h2 v (by omega) hx
theorem qf_mxK {t : Nat} {g : Nat → Int} {C : Int} {i : Nat} {y : Int} (h : qf_mx t g C i y) (hx : g i ≤ y) : qf_mx t g C (i + 1) y := by
  obtain ⟨h0, h1, h2⟩ := h
  refine ⟨h0, h1, fun v hv hb => ?_⟩
  by_cases e : v = i
  · rw [e]
    exact hx
  · exact h2 v (by omega) hb
theorem qf_mxS {t : Nat} {g : Nat → Int} {C : Int} {i : Nat} {y : Int} (h : qf_mx t g C i y) (hC : g i ≤ C) (hx : y < g i) : qf_mx t g C (i + 1) (g i) := by
  obtain ⟨h0, h1, h2⟩ := h
  refine ⟨by omega, hC, fun v hv hb => ?_⟩
  by_cases e : v = i
  · rw [e]
    exact Int.le_refl _
  · have := h2 v (by omega) hb
    omega
/-! the rows of the three tables at one set -/
def qf_lo (n : Nat) (W : Nat → Nat → Int) (L G : Nat → Int) (s : Nat) : Prop :=
  0 ≤ L s ∧ L s ≤ 48 * (qf_o s : Int) ∧ 0 ≤ G s ∧ G s ≤ 48 * (qf_o s : Int) ∧
  (∀ v, v < n → s.testBit v = true → L s ≤ W (qf_d s v) v + L (qf_d s v) ∧ W (qf_d s v) v + G (qf_d s v) ≤ G s) ∧
  (0 < s → ∃ v, v < n ∧ s.testBit v = true ∧ L s = W (qf_d s v) v + L (qf_d s v))
def qf_bf (n : Nat) (W : Nat → Nat → Int) (B : Nat → Int) (s : Nat) : Prop :=
  0 ≤ B s ∧ B s ≤ 48 * (qf_o s : Int) ∧
  (∀ v, v < n → s.testBit v = true → B s ≤ W (qf_c n s) v + B (qf_d s v)) ∧
  (0 < s → ∃ v, v < n ∧ s.testBit v = true ∧ B s = W (qf_c n s) v + B (qf_d s v))
theorem qf_loC {n : Nat} {W : Nat → Nat → Int} {L G L' G' : Nat → Int} {s : Nat} (h : ∀ t, t ≤ s → L' t = L t ∧ G' t = G t) (k : qf_lo n W L G s) : qf_lo n W L' G' s := by
  obtain ⟨k1, k2, k3, k4, k5, k6⟩ := k
  have e := h s (Nat.le_refl s)
  have f := fun v => h (qf_d s v) (qf_dle s v)
  refine ⟨by rw [e.1]; exact k1, by rw [e.1]; exact k2, by rw [e.2]; exact k3, by rw [e.2]; exact k4, fun v hv hb => ?_, fun h0 => ?_⟩
  · rw [e.1, e.2, (f v).1, (f v).2]
    exact k5 v hv hb
  · obtain ⟨v, hv, hb, q⟩ := k6 h0
    exact ⟨v, hv, hb, by rw [e.1, (f v).1]; exact q⟩
theorem qf_bfC {n : Nat} {W : Nat → Nat → Int} {B B' : Nat → Int} {s : Nat} (h : ∀ t, t ≤ s → B' t = B t) (k : qf_bf n W B s) : qf_bf n W B' s := by
  obtain ⟨k1, k2, k3, k4⟩ := k
  have e := h s (Nat.le_refl s)
  have f := fun v => h (qf_d s v) (qf_dle s v)
  refine ⟨by rw [e]; exact k1, by rw [e]; exact k2, fun v hv hb => ?_, fun h0 => ?_⟩
  · rw [e, f v]
    exact k3 v hv hb
  · obtain ⟨v, hv, hb, q⟩ := k4 h0
    exact ⟨v, hv, hb, by rw [e, f v]; exact q⟩
theorem qf_Vs (a : Nat → Int32) (t : Nat) (x : Int32) : qf_V (upd a t x) t = x.toInt := by
  unfold qf_V
  rw [pk_us]
theorem qf_Vn (a : Nat → Int32) {t j : Nat} (x : Int32) (h : j ≠ t) : qf_V (upd a t x) j = qf_V a j := by
  unfold qf_V
  rw [pk_un h]
theorem qf_loM {n t : Nat} {a3 a4 a5 : Nat → Int32} {x y : Int32} (hn : n < 6) (ht : t < 2 ^ n) (h0 : 0 < t) (hw : qf_w a3)
    (hlo : ∀ s, s < t → qf_lo n (qf_W a3) (qf_V a4) (qf_V a5) s)
    (hx : qf_mn t (fun v => qf_W a3 (qf_d t v) v + qf_V a4 (qf_d t v)) n x.toInt)
    (hy : qf_mx t (fun v => qf_W a3 (qf_d t v) v + qf_V a5 (qf_d t v)) (48 * (qf_o t : Int)) n y.toInt) :
    qf_lo n (qf_W a3) (qf_V (upd a4 t x)) (qf_V (upd a5 t y)) t := by
  have d4 : ∀ v, v < n → t.testBit v = true → qf_V (upd a4 t x) (qf_d t v) = qf_V a4 (qf_d t v) := fun v hv hb => qf_Vn a4 x (Nat.ne_of_lt (qf_dl n hn t ht v hv hb).1)
  have d5 : ∀ v, v < n → t.testBit v = true → qf_V (upd a5 t y) (qf_d t v) = qf_V a5 (qf_d t v) := fun v hv hb => qf_Vn a5 y (Nat.ne_of_lt (qf_dl n hn t ht v hv hb).1)
  obtain ⟨m0, m1, m2, m3⟩ := hx
  obtain ⟨g0, g1, g2⟩ := hy
  have ex : ∃ v, v < n ∧ t.testBit v = true ∧ x.toInt = qf_W a3 (qf_d t v) v + qf_V a4 (qf_d t v) := by
    rcases m3 with ⟨_, b⟩ | h
    · obtain ⟨v, hv, hb⟩ := qf_ex n hn t ht h0
      rw [b v hv] at hb
      exact absurd hb (by decide)
    · exact h
  unfold qf_lo
  rw [qf_Vs, qf_Vs]
  refine ⟨m0, ?_, g0, g1, fun v hv hb => ?_, fun _ => ?_⟩
  · obtain ⟨v, hv, hb, e⟩ := ex
    have q := (qf_dl n hn t ht v hv hb).2.2.2
    have l := (hlo _ (qf_dl n hn t ht v hv hb).1).2.1
    have w : qf_W a3 (qf_d t v) v ≤ 48 := (hw (5 * qf_d t v + v)).2
    omega
  · rw [d4 v hv hb, d5 v hv hb]
    exact ⟨m2 v hv hb, g2 v hv hb⟩
  · obtain ⟨v, hv, hb, e⟩ := ex
    exact ⟨v, hv, hb, by rw [d4 v hv hb]; exact e⟩
theorem qf_bfM {n t : Nat} {a3 a6 : Nat → Int32} {x : Int32} (hn : n < 6) (ht : t < 2 ^ n) (h0 : 0 < t) (hw : qf_w a3)
    (hlo : ∀ s, s < t → qf_bf n (qf_W a3) (qf_V a6) s)
    (hx : qf_mn t (fun v => qf_W a3 (qf_c n t) v + qf_V a6 (qf_d t v)) n x.toInt) :
    qf_bf n (qf_W a3) (qf_V (upd a6 t x)) t := by
  have d6 : ∀ v, v < n → t.testBit v = true → qf_V (upd a6 t x) (qf_d t v) = qf_V a6 (qf_d t v) := fun v hv hb => qf_Vn a6 x (Nat.ne_of_lt (qf_dl n hn t ht v hv hb).1)
  obtain ⟨m0, m1, m2, m3⟩ := hx
  have ex : ∃ v, v < n ∧ t.testBit v = true ∧ x.toInt = qf_W a3 (qf_c n t) v + qf_V a6 (qf_d t v) := by
    rcases m3 with ⟨_, b⟩ | h
    · obtain ⟨v, hv, hb⟩ := qf_ex n hn t ht h0
      rw [b v hv] at hb
      exact absurd hb (by decide)
    · exact h
  unfold qf_bf
  rw [qf_Vs]
  refine ⟨m0, ?_, fun v hv hb => ?_, fun _ => ?_⟩
  · obtain ⟨v, hv, hb, e⟩ := ex
    have q := (qf_dl n hn t ht v hv hb).2.2.2
    have l := (hlo _ (qf_dl n hn t ht v hv hb).1).2.1
    have w : qf_W a3 (qf_c n t) v ≤ 48 := (hw (5 * qf_c n t + v)).2
    omega
  · rw [d6 v hv hb]
    exact m2 v hv hb
  · obtain ⟨v, hv, hb, e⟩ := ex
    exact ⟨v, hv, hb, by rw [d6 v hv hb]; exact e⟩
/-! the walks -/
section
variable {post : St2 → Prop} {ff fk fo : Int32} {a1 a2 a3 a4 a5 a6 a7 : Nat → Int32}
theorem qf_79 {J : Int32 → Int32 → Int32 → Prop} {fn x1 x3 x6 z0 : Int32} {i d : Nat} (hd : d < 32) (h1 : x6 + a5 d ≤ x3 → J z0 x3 (nI (i + 1))) (h2 : ¬ x6 + a5 d ≤ x3 → J z0 (x6 + a5 d) (nI (i + 1))) :
    wX_sumBehind_79 post J x1 x3 (nI i) (nI d) x6 z0 fn ff fk fo a1 a2 a3 a4 a5 a6 a7 := by
  have e : (nI d).toNatClampNeg = d := nI_clamp (by omega)
  unfold wX_sumBehind_79
  rw [e]
  exact ⟨pk_in d 32 hd, br_c (fun h => nm_r (nI_1 i) (h1 h)) (fun h => ⟨pk_in d 32 hd, nm_e (nm_r (nI_1 i) (h2 h))⟩)⟩
theorem qf_sb9 {n t : Nat} (hn : n < 6) (ht : t < 2 ^ n) (h0 : 0 < t) (hw : qf_w a3)
    (hlo : ∀ s, s < t → qf_lo n (qf_W a3) (qf_V a4) (qf_V a5) s)
    (hp : ∀ x y : Int32, qf_lo n (qf_W a3) (qf_V (upd a4 t x)) (qf_V (upd a5 t y)) t → post (nI n, ff, fk, fo, a1, a2, a3, upd a4 t x, upd a5 t y, a6, a7)) :
    ∃ k, wX_sumBehind_9 post (nI t) (nI n) ff fk fo a1 a2 a3 a4 a5 a6 a7 k 1000 0 0 := by
  have p32 := (qf_pn n hn).1
  have ht32 : t < 32 := by omega
  have et : (nI t).toNatClampNeg = t := nI_clamp (by omega)
  refine pk_loop (σ := Int32 × Int32) (fun k i s => wX_sumBehind_9 post (nI t) (nI n) ff fk fo a1 a2 a3 a4 a5 a6 a7 k s.1 s.2 (nI i))
    (fun i s => qf_mn t (fun v => qf_W a3 (qf_d t v) v + qf_V a4 (qf_d t v)) i s.1.toInt ∧ qf_mx t (fun v => qf_W a3 (qf_d t v) v + qf_V a5 (qf_d t v)) (48 * (qf_o t : Int)) i s.2.toInt) n 0 (1000, 0) (by omega) ?_ ?_ ?_
  · exact ⟨by rw [qf_1000]; exact qf_mn0 _ _, by rw [qf_0]; exact qf_mx0 _ _ _ (by omega)⟩
  · intro k s h
    exact pk_le n n (fun _ => ⟨pk_in t 32 ht32, nm_r (e' := upd a4 t s.1) (by rw [et]) ⟨pk_in t 32 ht32, nm_r (e' := upd a5 t s.2) (by rw [et]) (hp _ _ (qf_loM hn ht h0 hw hlo h.1 h.2))⟩⟩) (fun z => absurd z (by omega))
  · intro k i s hi h hw'
    obtain ⟨hm, hx⟩ := h
    refine pk_le n i (fun z => absurd z (by omega)) (fun _ => ?_)
    by_cases hb : t.testBit i = true
    · have q := qf_dl n hn t ht i hi hb
      have l := hlo _ q.1
      have q4 := q.2.2.2
      have w1 : 0 ≤ (a3 (5 * qf_d t i + i)).toInt := (hw (5 * qf_d t i + i)).1
      have w2 : (a3 (5 * qf_d t i + i)).toInt ≤ 48 := (hw (5 * qf_d t i + i)).2
      have l1 : 0 ≤ (a4 (qf_d t i)).toInt := l.1
      have l2 : (a4 (qf_d t i)).toInt ≤ 48 * (qf_o (qf_d t i) : Int) := l.2.1
      have l3 : 0 ≤ (a5 (qf_d t i)).toInt := l.2.2.1
      have l4 : (a5 (qf_d t i)).toInt ≤ 48 * (qf_o (qf_d t i) : Int) := l.2.2.2.1
      have o5 := qf_on5 t ht32
      have e6 : ((5 * nI (qf_d t i)) + nI i).toNatClampNeg = 5 * qf_d t i + i := by rw [qf_ix, nI_clamp (by omega)]
      have ed : (nI (qf_d t i)).toNatClampNeg = qf_d t i := nI_clamp (by omega)
      have s4 : (a3 (5 * qf_d t i + i) + a4 (qf_d t i)).toInt = qf_W a3 (qf_d t i) i + qf_V a4 (qf_d t i) := qf_add (by omega) (by omega) (by omega) (by omega)
      have s5 : (a3 (5 * qf_d t i + i) + a5 (qf_d t i)).toInt = qf_W a3 (qf_d t i) i + qf_V a5 (qf_d t i) := qf_add (by omega) (by omega) (by omega) (by omega)
      have c4 : 0 ≤ qf_W a3 (qf_d t i) i + qf_V a4 (qf_d t i) ∧ qf_W a3 (qf_d t i) i + qf_V a4 (qf_d t i) < 1000 := by
        unfold qf_W qf_V
        omega
      have c5 : qf_W a3 (qf_d t i) i + qf_V a5 (qf_d t i) ≤ 48 * (qf_o t : Int) := by
        unfold qf_W qf_V
        omega
      have Y1 : a3 (5 * qf_d t i + i) + a5 (qf_d t i) ≤ s.2 → qf_mx t (fun v => qf_W a3 (qf_d t v) v + qf_V a5 (qf_d t v)) (48 * (qf_o t : Int)) (i + 1) s.2.toInt := fun z => qf_mxK hx (by have z' := qf_le.mp z; rw [s5] at z'; exact z')
      have Y2 : ¬ a3 (5 * qf_d t i + i) + a5 (qf_d t i) ≤ s.2 → qf_mx t (fun v => qf_W a3 (qf_d t v) v + qf_V a5 (qf_d t v)) (48 * (qf_o t : Int)) (i + 1) (a3 (5 * qf_d t i + i) + a5 (qf_d t i)).toInt := fun z => by
        rw [qf_le, s5] at z
        rw [s5]
        exact qf_mxS hx c5 (Int.not_le.mp z)
      refine br_f (mt (qf_bit t ht32 i (by omega)).mp (by rw [hb]; decide)) (nm_r (qf_del t ht32 i (by omega)) ⟨pk_in (5 * qf_d t i + i) 160 (by omega) (qf_ix _ _), nm_r (e' := a3 (5 * qf_d t i + i)) (by rw [e6]) ⟨pk_in (qf_d t i) 32 (by omega), ?_⟩⟩)
      rw [ed]
      refine br_c (fun z => ?_) (fun z => ⟨pk_in (qf_d t i) 32 (by omega), ?_⟩)
      · have X : qf_mn t (fun v => qf_W a3 (qf_d t v) v + qf_V a4 (qf_d t v)) (i + 1) s.1.toInt := qf_mnK hm c4.2 (by have z' := qf_le.mp z; rw [s4] at z'; exact z')
        exact qf_79 (by omega) (fun y => hw' (s.1, s.2) ⟨X, Y1 y⟩) (fun y => hw' (s.1, a3 (5 * qf_d t i + i) + a5 (qf_d t i)) ⟨X, Y2 y⟩)
      · have X : qf_mn t (fun v => qf_W a3 (qf_d t v) v + qf_V a4 (qf_d t v)) (i + 1) (a3 (5 * qf_d t i + i) + a4 (qf_d t i)).toInt := by
          rw [qf_le, s4] at z
          rw [s4]
          exact qf_mnS hm hb c4.1 (Int.not_le.mp z)
        exact qf_79 (by omega) (fun y => hw' (a3 (5 * qf_d t i + i) + a4 (qf_d t i), s.2) ⟨X, Y1 y⟩) (fun y => hw' (a3 (5 * qf_d t i + i) + a4 (qf_d t i), a3 (5 * qf_d t i + i) + a5 (qf_d t i)) ⟨X, Y2 y⟩)
    · have hf : t.testBit i = false := by
        cases h : t.testBit i
        · rfl
        · exact absurd h hb
      exact br_t ((qf_bit t ht32 i (by omega)).mpr hf) (nm_r (nI_1 i) (hw' s ⟨qf_mnN hm hf, qf_mxN hx hf⟩))
theorem qf_sbh {n t : Nat} (hn : n < 6) (ht : t < 2 ^ n) (h0 : 0 < t) (hw : qf_w a3)
    (hlo : ∀ s, s < t → qf_lo n (qf_W a3) (qf_V a4) (qf_V a5) s)
    (hp : ∀ x y : Int32, qf_lo n (qf_W a3) (qf_V (upd a4 t x)) (qf_V (upd a5 t y)) t → post (nI n, ff, fk, fo, a1, a2, a3, upd a4 t x, upd a5 t y, a6, a7)) :
    wpX_sumBehind post (nI n, ff, fk, fo, a1, a2, a3, a4, a5, a6, a7) (nI t) :=
  qf_sb9 hn ht h0 hw hlo hp
theorem qf_sf16 {n t : Nat} (hn : n < 6) (ht : t < 2 ^ n) (h0 : 0 < t) (hw : qf_w a3)
    (hlo : ∀ s, s < t → qf_bf n (qf_W a3) (qf_V a6) s)
    (hp : ∀ x : Int32, qf_bf n (qf_W a3) (qf_V (upd a6 t x)) t → post (nI n, ff, fk, fo, a1, a2, a3, a4, a5, upd a6 t x, a7)) :
    ∃ k, wX_sumBefore_16 post (nI t) (nI (qf_c n t)) (nI n) ff fk fo a1 a2 a3 a4 a5 a6 a7 k 1000 0 := by
  have p32 := (qf_pn n hn).1
  have ht32 : t < 32 := by omega
  have et : (nI t).toNatClampNeg = t := nI_clamp (by omega)
  have hc := (qf_co n hn t ht).1
  refine pk_loop (σ := Int32) (fun k i s => wX_sumBefore_16 post (nI t) (nI (qf_c n t)) (nI n) ff fk fo a1 a2 a3 a4 a5 a6 a7 k s (nI i))
    (fun i s => qf_mn t (fun v => qf_W a3 (qf_c n t) v + qf_V a6 (qf_d t v)) i s.toInt) n 0 1000 (by omega) ?_ ?_ ?_
  · show qf_mn t (fun v => qf_W a3 (qf_c n t) v + qf_V a6 (qf_d t v)) 0 (1000 : Int32).toInt
    rw [qf_1000]
    exact qf_mn0 _ _
  · intro k s h
    exact pk_le n n (fun _ => ⟨pk_in t 32 ht32, nm_r (e' := upd a6 t s) (by rw [et]) (hp _ (qf_bfM hn ht h0 hw hlo h))⟩) (fun z => absurd z (by omega))
  · intro k i s hi hm hw'
    refine pk_le n i (fun z => absurd z (by omega)) (fun _ => ?_)
    by_cases hb : t.testBit i = true
    · have q := qf_dl n hn t ht i hi hb
      have l := hlo _ q.1
      have q4 := q.2.2.2
      have w1 : 0 ≤ (a3 (5 * qf_c n t + i)).toInt := (hw (5 * qf_c n t + i)).1
      have w2 : (a3 (5 * qf_c n t + i)).toInt ≤ 48 := (hw (5 * qf_c n t + i)).2
      have l1 : 0 ≤ (a6 (qf_d t i)).toInt := l.1
      have l2 : (a6 (qf_d t i)).toInt ≤ 48 * (qf_o (qf_d t i) : Int) := l.2.1
      have o5 := qf_on5 t ht32
      have e6 : ((5 * nI (qf_c n t)) + nI i).toNatClampNeg = 5 * qf_c n t + i := by rw [qf_ix, nI_clamp (by omega)]
      have ed : (nI (qf_d t i)).toNatClampNeg = qf_d t i := nI_clamp (by omega)
      have s4 : (a3 (5 * qf_c n t + i) + a6 (qf_d t i)).toInt = qf_W a3 (qf_c n t) i + qf_V a6 (qf_d t i) := qf_add (by omega) (by omega) (by omega) (by omega)
      have c4 : 0 ≤ qf_W a3 (qf_c n t) i + qf_V a6 (qf_d t i) ∧ qf_W a3 (qf_c n t) i + qf_V a6 (qf_d t i) < 1000 := by
        unfold qf_W qf_V
        omega
      refine br_f (mt (qf_bit t ht32 i (by omega)).mp (by rw [hb]; decide)) ⟨pk_in (5 * qf_c n t + i) 160 (by omega) (qf_ix _ _), pk_in (qf_d t i) 32 (by omega) (qf_del t ht32 i (by omega)), nm_r (e' := a3 (5 * qf_c n t + i) + a6 (qf_d t i)) (by rw [e6, qf_del t ht32 i (by omega), ed]) (br_c (fun z => nm_r (nI_1 i) (hw' s ?_)) (fun z => nm_r (nI_1 i) (hw' (a3 (5 * qf_c n t + i) + a6 (qf_d t i)) ?_)))⟩
      · have z' := qf_le.mp z
        rw [s4] at z'
        exact qf_mnK hm c4.2 z'
      · rw [qf_le, s4] at z
        rw [s4]
        exact qf_mnS hm hb c4.1 (Int.not_le.mp z)
    · have hf : t.testBit i = false := by
        cases h : t.testBit i
        · rfl
        · exact absurd h hb
      exact br_t ((qf_bit t ht32 i (by omega)).mpr hf) (nm_r (nI_1 i) (hw' s (qf_mnN hm hf)))
theorem qf_sbf {n t : Nat} (hn : n < 6) (ht : t < 2 ^ n) (h0 : 0 < t) (hw : qf_w a3)
    (hlo : ∀ s, s < t → qf_bf n (qf_W a3) (qf_V a6) s)
    (hp : ∀ x : Int32, qf_bf n (qf_W a3) (qf_V (upd a6 t x)) t → post (nI n, nI (2 ^ n - 1), fk, fo, a1, a2, a3, a4, a5, upd a6 t x, a7)) :
    wpX_sumBefore post (nI n, nI (2 ^ n - 1), fk, fo, a1, a2, a3, a4, a5, a6, a7) (nI t) :=
  nm_r (qf_cmp n hn t ht) (qf_sf16 hn ht h0 hw hlo hp)
end
end
section
/-- the tables are worked out -/
def qf_K (n : Nat) (a3 a4 a5 a6 : Nat → Int32) : Prop :=
  qf_w a3 ∧ (∀ s, s < 2 ^ n → qf_lo n (qf_W a3) (qf_V a4) (qf_V a5) s) ∧ (∀ s, s < 2 ^ n → qf_bf n (qf_W a3) (qf_V a6) s)
theorem qf_loZ {n : Nat} {W : Nat → Nat → Int} {L G : Nat → Int} (h1 : L 0 = 0) (h2 : G 0 = 0) : qf_lo n W L G 0 := by
  unfold qf_lo
  rw [h1, h2, qf_on0]
  refine ⟨by decide, by decide, by decide, by decide, fun v _ hb => ?_, fun h => absurd h (by decide)⟩
  rw [Nat.zero_testBit] at hb
  exact absurd hb (by decide)
theorem qf_bfZ {n : Nat} {W : Nat → Nat → Int} {B : Nat → Int} (h1 : B 0 = 0) : qf_bf n W B 0 := by
  unfold qf_bf
  rw [h1, qf_on0]
  refine ⟨by decide, by decide, fun v _ hb => ?_, fun h => absurd h (by decide)⟩
  rw [Nat.zero_testBit] at hb
  exact absurd hb (by decide)
section
variable {post : St2 → Prop} {fk fo : Int32} {a1 a2 a3 a4 a5 a6 a7 : Nat → Int32}
theorem qf_w113 {n : Nat} (hn : n < 6) (hw : qf_w a3) (h6 : qf_bf n (qf_W a3) (qf_V a6) 0)
    (hp : ∀ b : Nat → Int32, (∀ s, s < 2 ^ n → qf_bf n (qf_W a3) (qf_V b) s) → post (nI n, nI (2 ^ n - 1), fk, fo, a1, a2, a3, a4, a5, b, a7)) :
    ∃ k, wX_workOut_113 post k 1 (nI n) (nI (2 ^ n - 1)) fk fo a1 a2 a3 a4 a5 a6 a7 := by
  obtain ⟨p1, p2⟩ := qf_pn n hn
  refine pk_loop (σ := Nat → Int32) (fun k i s => wX_workOut_113 post k (nI i) (nI n) (nI (2 ^ n - 1)) fk fo a1 a2 a3 a4 a5 s a7) (fun i s => 1 ≤ i ∧ ∀ t, t < i → qf_bf n (qf_W a3) (qf_V s) t) (2 ^ n) 1 a6 p2 ?_ ?_ ?_
  · refine ⟨Nat.le_refl 1, fun t ht => ?_⟩
    rw [show t = 0 by omega]
    exact h6
  · intro k s h
    exact pk_lt (2 ^ n - 1) (2 ^ n) (fun _ => hp s h.2) (fun z => absurd z (by omega))
  · intro k i s hi h hw'
    obtain ⟨h1, h2⟩ := h
    refine pk_lt (2 ^ n - 1) i (fun z => absurd z (by omega)) (fun _ => qf_sbf hn hi h1 hw h2 (fun x hx => nm_r (nI_1 i) (hw' (upd s i x) ⟨by omega, fun t ht => ?_⟩)))
    by_cases e : t = i
    · rw [e]
      exact hx
    · exact qf_bfC (fun j hj => qf_Vn s x (by omega)) (h2 t (by omega))
theorem qf_w92 {n : Nat} (hn : n < 6) (hw : qf_w a3) (h4 : qf_lo n (qf_W a3) (qf_V a4) (qf_V a5) 0) (h6 : qf_bf n (qf_W a3) (qf_V a6) 0)
    (hp : ∀ b4 b5 b6 : Nat → Int32, qf_K n a3 b4 b5 b6 → post (nI n, nI (2 ^ n - 1), fk, fo, a1, a2, a3, b4, b5, b6, a7)) :
    ∃ k, wX_workOut_92 post k 1 (nI n) (nI (2 ^ n - 1)) fk fo a1 a2 a3 a4 a5 a6 a7 := by
  obtain ⟨p1, p2⟩ := qf_pn n hn
  refine pk_loop (σ := (Nat → Int32) × (Nat → Int32)) (fun k i s => wX_workOut_92 post k (nI i) (nI n) (nI (2 ^ n - 1)) fk fo a1 a2 a3 s.1 s.2 a6 a7) (fun i s => 1 ≤ i ∧ ∀ t, t < i → qf_lo n (qf_W a3) (qf_V s.1) (qf_V s.2) t) (2 ^ n) 1 (a4, a5) p2 ?_ ?_ ?_
  · refine ⟨Nat.le_refl 1, fun t ht => ?_⟩
    rw [show t = 0 by omega]
    exact h4
  · intro k s h
    exact pk_lt (2 ^ n - 1) (2 ^ n) (fun _ => qf_w113 hn hw h6 (fun b hb => hp s.1 s.2 b ⟨hw, h.2, hb⟩)) (fun z => absurd z (by omega))
  · intro k i s hi h hw'
    obtain ⟨h1, h2⟩ := h
    refine pk_lt (2 ^ n - 1) i (fun z => absurd z (by omega)) (fun _ => qf_sbh hn hi h1 hw h2 (fun x y hx => nm_r (nI_1 i) (hw' (upd s.1 i x, upd s.2 i y) ⟨by omega, fun t ht => ?_⟩)))
    by_cases e : t = i
    · rw [e]
      exact hx
    · exact qf_loC (fun j hj => ⟨qf_Vn s.1 x (by omega), qf_Vn s.2 y (by omega)⟩) (h2 t (by omega))
theorem qf_w25 {J : Int32 → Int32 → Int32 → Int32 → Int32 → (Nat → Int32) → (Nat → Int32) → (Nat → Int32) → (Nat → Int32) → (Nat → Int32) → (Nat → Int32) → (Nat → Int32) → Prop} {n b : Nat} (hn : n < 6) (hb : b < 2 ^ n) (hw : qf_w a3)
    (hJ : ∀ (go : Int32) (b3 b7 : Nat → Int32), qf_w b3 → J (nI (b + 1)) (nI n) (nI (2 ^ n - 1)) fk go a1 a2 b3 a4 a5 a6 b7) :
    ∃ k, wX_workOut_25 post J (nI b) k 0 (nI n) (nI (2 ^ n - 1)) fk fo a1 a2 a3 a4 a5 a6 a7 := by
  obtain ⟨p1, p2⟩ := qf_pn n hn
  refine pk_loop (σ := Int32 × (Nat → Int32) × (Nat → Int32)) (fun k i s => wX_workOut_25 post J (nI b) k (nI i) (nI n) (nI (2 ^ n - 1)) fk s.1 a1 a2 s.2.1 a4 a5 a6 s.2.2) (fun _ s => qf_w s.2.1) n 0 (fo, a3, a7) (by omega) hw ?_ ?_
  · intro k s h
    exact pk_le n n (fun _ => nm_r (nI_1 b) (hJ s.1 s.2.1 s.2.2 h)) (fun z => absurd z (by omega))
  · intro k i s hi h hw'
    exact pk_le n i (fun z => absurd z (by omega)) (fun _ => br_c
      (fun _ => qf_cnt hn hb hi (fun c b7 hc => ⟨pk_in (5 * b + i) 160 (by omega) (qf_ix _ _), nm_e (nm_r (nI_1 i) (hw' (nI c, _, b7) (qf_wu h rfl hc)))⟩))
      (fun _ => nm_r (nI_1 i) (hw' s h)))
theorem qf_w15 {n : Nat} (hn : n < 6) (hw : qf_w a3)
    (hp : ∀ (go : Int32) (b3 b4 b5 b6 b7 : Nat → Int32), qf_K n b3 b4 b5 b6 → post (nI n, nI (2 ^ n - 1), fk, go, a1, a2, b3, b4, b5, b6, b7)) :
    ∃ k, wX_workOut_15 post k 0 (nI n) (nI (2 ^ n - 1)) fk fo a1 a2 a3 a4 a5 a6 a7 := by
  obtain ⟨p1, p2⟩ := qf_pn n hn
  refine pk_loop (σ := Int32 × (Nat → Int32) × (Nat → Int32)) (fun k i s => wX_workOut_15 post k (nI i) (nI n) (nI (2 ^ n - 1)) fk s.1 a1 a2 s.2.1 a4 a5 a6 s.2.2) (fun _ s => qf_w s.2.1) (2 ^ n) 0 (fo, a3, a7) (by omega) hw ?_ ?_
  · intro k s h
    exact pk_lt (2 ^ n - 1) (2 ^ n) (fun _ => nm_e (nm_e (nm_e (qf_w92 hn h (qf_loZ (by rw [qf_Vs, qf_0]) (by rw [qf_Vs, qf_0])) (qf_bfZ (by rw [qf_Vs, qf_0])) (fun b4 b5 b6 hk => hp _ _ _ _ _ _ hk))))) (fun z => absurd z (by omega))
  · intro k i s hi h hw'
    exact pk_lt (2 ^ n - 1) i (fun z => absurd z (by omega)) (fun _ => qf_w25 hn hi h (fun go b3 b7 hb => hw' (go, b3, b7) hb))
theorem qf_wo {n : Nat} (hn : n < 6) (hw : qf_w a3) (hk : fk = 0 ∨ fk = 1 ∧ qf_K n a3 a4 a5 a6)
    (hp : ∀ (go : Int32) (b3 b4 b5 b6 b7 : Nat → Int32), qf_K n b3 b4 b5 b6 → post (nI n, nI (2 ^ n - 1), 1, go, a1, a2, b3, b4, b5, b6, b7)) :
    wpX_workOut post (nI n, nI (2 ^ n - 1), fk, fo, a1, a2, a3, a4, a5, a6, a7) := by
  rcases hk with e | ⟨e, k⟩
  · exact br_t e (qf_w15 hn hw hp)
  · rw [e]
    exact br_f (by decide) (hp fo a3 a4 a5 a6 a7 k)
theorem qf_wo1 {fn ff : Int32} (hp : post (fn, ff, 1, fo, a1, a2, a3, a4, a5, a6, a7)) :
    wpX_workOut post (fn, ff, 1, fo, a1, a2, a3, a4, a5, a6, a7) :=
  br_f (by decide) hp
end
end
section
/-! the plain law: splits, orders, the greedy chain -/
section
variable {n : Nat} {W : Nat → Nat → Int} {L G B : Nat → Int}
theorem qf_ge (hn : n < 6) (hL : ∀ s, s < 2 ^ n → qf_lo n W L G s) (hB : ∀ s, s < 2 ^ n → qf_bf n W B s) (s : Nat) : s < 2 ^ n → L (2 ^ n - 1) ≤ B s + L (qf_c n s) := by
  induction s using Nat.strongRecOn with
  | _ s ih =>
    intro hs
    by_cases h0 : s = 0
    · rw [h0, qf_c0]
      rw [h0] at hs
      have b := (hB 0 hs).1
      omega
    · obtain ⟨v, hv, hb, e⟩ := (hB s hs).2.2.2 (by omega)
      have q := qf_dl n hn s hs v hv hb
      have i := ih (qf_d s v) q.1 (by omega)
      have c := qf_co n hn s hs
      have cb : (qf_c n s).testBit v = false := by
        rw [qf_cb n hn s hs v hv, hb]
        rfl
      have j := qf_in n hn (qf_c n s) c.1 v hv cb
      have l := ((hL (qf_i (qf_c n s) v) j.1).2.2.2.2.1 v hv j.2.1).1
      rw [j.2.2.1] at l
      rw [qf_cd n hn s hs v hv hb] at i
      omega
theorem qf_at (hn : n < 6) (hL : ∀ s, s < 2 ^ n → qf_lo n W L G s) (hB : ∀ s, s < 2 ^ n → qf_bf n W B s) (k : Nat) : k ≤ n → ∃ s, s < 2 ^ n ∧ qf_o s = k ∧ B s + L (qf_c n s) ≤ L (2 ^ n - 1) := by
  have p := qf_pn n hn
  induction k with
  | zero =>
    intro _
    refine ⟨0, by omega, qf_on0, ?_⟩
    have b := (hB 0 (by omega)).2.1
    rw [qf_on0] at b
    rw [qf_c0]
    omega
  | succ k ih =>
    intro hk
    obtain ⟨s, hs, ho, hl⟩ := ih (by omega)
    have c := qf_co n hn s hs
    have c0 := qf_onN n hn s hs (by omega)
    obtain ⟨v, hv, hb, e⟩ := (hL (qf_c n s) c.1).2.2.2.2.2 c0
    have sb : s.testBit v = false := by
      have t := qf_cb n hn s hs v hv
      rw [hb] at t
      cases h : s.testBit v
      · rfl
      · rw [h] at t
        exact absurd t (by decide)
    have j := qf_in n hn s hs v hv sb
    have l := (hB (qf_i s v) j.1).2.2.1 v hv j.2.1
    have ci := qf_ci n hn s hs v hv sb
    rw [j.2.2.1, ci] at l
    refine ⟨qf_i s v, j.1, by rw [j.2.2.2.2, ho], ?_⟩
    rw [ci]
    omega
theorem qf_lwG (hn : n < 6) (hL : ∀ s, s < 2 ^ n → qf_lo n W L G s) (hB : ∀ s, s < 2 ^ n → qf_bf n W B s) {b v : Nat} (hb : b < 2 ^ n) (hv : v < n) (hf : b.testBit v = false) : L (2 ^ n - 1) ≤ B (qf_c n (qf_i b v)) + W b v + L b := by
  have j := qf_in n hn b hb v hv hf
  have c := qf_co n hn _ j.1
  have g := qf_ge hn hL hB (qf_c n (qf_i b v)) c.1
  have l := ((hL (qf_i b v) j.1).2.2.2.2.1 v hv j.2.1).1
  rw [j.2.2.1] at l
  rw [c.2.1] at g
  omega
theorem qf_lwA (hn : n < 6) (hL : ∀ s, s < 2 ^ n → qf_lo n W L G s) (hB : ∀ s, s < 2 ^ n → qf_bf n W B s) {p : Nat} (hp : p < n) : ∃ b v, b < 2 ^ n ∧ v < n ∧ b.testBit v = false ∧ qf_o b = n - 1 - p ∧ B (qf_c n (qf_i b v)) + W b v + L b ≤ L (2 ^ n - 1) := by
  obtain ⟨s, hs, ho, hl⟩ := qf_at hn hL hB p (by omega)
  have c := qf_co n hn s hs
  have c0 := qf_onN n hn s hs (by omega)
  obtain ⟨v, hv, hb, e⟩ := (hL (qf_c n s) c.1).2.2.2.2.2 c0
  have q := qf_dl n hn (qf_c n s) c.1 v hv hb
  refine ⟨qf_d (qf_c n s) v, v, by omega, hv, q.2.1, by omega, ?_⟩
  rw [q.2.2.1, c.2.1]
  omega
end
/-! the order: a permutation of the variables, and the masks of its places -/
def qf_m (o : Nat → Nat) (lo : Nat) : Nat → Nat
  | 0 => 0
  | h + 1 => if lo ≤ h then qf_i (qf_m o lo h) (o h) else 0
/-- o is a permutation of the first n -/
def qf_pm (n : Nat) (o : Nat → Nat) : Prop := (∀ i, i < n → o i < n) ∧ ∀ i j, i < n → j < n → o i = o j → i = j
theorem qf_iT (s u v : Nat) : (qf_i s u).testBit v = true ↔ s.testBit v = true ∨ u = v := by
  unfold qf_i
  rw [Nat.testBit_or, Nat.testBit_two_pow]
  cases s.testBit v <;> simp
theorem qf_mT (o : Nat → Nat) (lo v : Nat) (hi : Nat) : (qf_m o lo hi).testBit v = true ↔ ∃ j, lo ≤ j ∧ j < hi ∧ o j = v := by
  induction hi with
  | zero =>
    show (0 : Nat).testBit v = true ↔ _
    rw [Nat.zero_testBit]
    exact ⟨fun h => absurd h (by decide), fun ⟨j, _, h, _⟩ => absurd h (by omega)⟩
  | succ h ih =>
    by_cases c : lo ≤ h
    · rw [show qf_m o lo (h + 1) = qf_i (qf_m o lo h) (o h) from if_pos c, qf_iT, ih]
      constructor
      · rintro (⟨j, h1, h2, h3⟩ | e)
        · exact ⟨j, h1, by omega, h3⟩
        · exact ⟨h, c, by omega, e⟩
      · rintro ⟨j, h1, h2, h3⟩
        by_cases e : j = h
        · rw [e] at h3
          exact Or.inr h3
        · exact Or.inl ⟨j, h1, by omega, h3⟩
    · rw [show qf_m o lo (h + 1) = 0 from if_neg c, Nat.zero_testBit]
      exact ⟨fun z => absurd z (by decide), fun ⟨j, h1, h2, _⟩ => absurd h1 (by omega)⟩
theorem qf_m0 (o : Nat → Nat) {lo hi : Nat} (h : hi ≤ lo) : qf_m o lo hi = 0 := by
  cases hi with
  | zero => rfl
  | succ k => exact if_neg (by omega)
theorem qf_mL {n : Nat} {o : Nat → Nat} (lo : Nat) (ho : ∀ i, i < n → o i < n) (hi : Nat) : hi ≤ n → qf_m o lo hi < 2 ^ n := by
  induction hi with
  | zero => exact fun _ => Nat.two_pow_pos n
  | succ h ih =>
    intro hh
    by_cases c : lo ≤ h
    · rw [show qf_m o lo (h + 1) = qf_i (qf_m o lo h) (o h) from if_pos c]
      exact Nat.or_lt_two_pow (ih (by omega)) (Nat.pow_lt_pow_right (by decide) (ho h (by omega)))
    · rw [show qf_m o lo (h + 1) = 0 from if_neg c]
      exact Nat.two_pow_pos n
theorem qf_mF {n : Nat} {o : Nat → Nat} (ho : qf_pm n o) {p : Nat} (hp : p < n) : (qf_m o (p + 1) n).testBit (o p) = false := by
  cases h : (qf_m o (p + 1) n).testBit (o p)
  · rfl
  · obtain ⟨j, h1, h2, h3⟩ := (qf_mT o (p + 1) (o p) n).mp h
    have := ho.2 j p h2 hp h3
    omega
theorem qf_mI {n : Nat} {o : Nat → Nat} {p : Nat} (hp : p < n) : qf_m o p n = qf_i (qf_m o (p + 1) n) (o p) := by
  apply Nat.eq_of_testBit_eq
  intro v
  rw [Bool.eq_iff_iff, qf_iT, qf_mT, qf_mT]
  constructor
  · rintro ⟨j, h1, h2, h3⟩
    by_cases e : j = p
    · rw [e] at h3
      exact Or.inr h3
    · exact Or.inl ⟨j, by omega, h2, h3⟩
  · rintro (⟨j, h1, h2, h3⟩ | e)
    · exact ⟨j, by omega, h2, h3⟩
    · exact ⟨p, Nat.le_refl p, hp, e⟩
theorem qf_mD {n : Nat} {o : Nat → Nat} (hn : n < 6) (ho : qf_pm n o) {p : Nat} (hp : p < n) : qf_m o p n < 2 ^ n ∧ qf_m o (p + 1) n < 2 ^ n ∧ (qf_m o p n).testBit (o p) = true ∧ qf_d (qf_m o p n) (o p) = qf_m o (p + 1) n ∧ 0 < qf_m o p n ∧ qf_o (qf_m o p n) = qf_o (qf_m o (p + 1) n) + 1 := by
  have l := qf_mL (p + 1) ho.1 n (Nat.le_refl n)
  have j := qf_in n hn _ l (o p) (ho.1 p hp) (qf_mF ho hp)
  rw [qf_mI hp]
  exact ⟨j.1, l, j.2.1, j.2.2.1, j.2.2.2.1, j.2.2.2.2⟩
theorem qf_mO {n : Nat} {o : Nat → Nat} (hn : n < 6) (ho : qf_pm n o) (k : Nat) : k ≤ n → qf_o (qf_m o (n - k) n) = k := by
  induction k with
  | zero =>
    intro _
    rw [qf_m0 o (by omega)]
    exact qf_on0
  | succ k ih =>
    intro hk
    have q := (qf_mD hn ho (show n - (k + 1) < n by omega)).2.2.2.2.2
    rw [show n - (k + 1) + 1 = n - k by omega, ih (by omega)] at q
    exact q
theorem qf_mA {n : Nat} {o : Nat → Nat} (hn : n < 6) (ho : qf_pm n o) : qf_m o 0 n = 2 ^ n - 1 := by
  have q := qf_mO hn ho n (Nat.le_refl n)
  rw [Nat.sub_self] at q
  exact qf_onF n hn _ (qf_mL 0 ho.1 n (Nat.le_refl n)) q
/-- the sum of the widths at the first p places -/
def qf_z (W : Nat → Nat → Int) (o : Nat → Nat) (n : Nat) : Nat → Int
  | 0 => 0
  | p + 1 => qf_z W o n p + W (qf_m o (p + 1) n) (o p)
theorem qf_zB {n : Nat} {W : Nat → Nat → Int} {L G : Nat → Int} {o : Nat → Nat} (hn : n < 6) (ho : qf_pm n o) (hL : ∀ s, s < 2 ^ n → qf_lo n W L G s) (p : Nat) : p ≤ n → L (2 ^ n - 1) ≤ qf_z W o n p + L (qf_m o p n) ∧ qf_z W o n p + G (qf_m o p n) ≤ G (2 ^ n - 1) := by
  induction p with
  | zero =>
    intro _
    rw [qf_mA hn ho]
    show _ ≤ 0 + _ ∧ 0 + _ ≤ _
    omega
  | succ p ih =>
    intro hp
    have q := qf_mD hn ho (show p < n by omega)
    have l := (hL _ q.1).2.2.2.2.1 (o p) (ho.1 p (by omega)) q.2.2.1
    rw [q.2.2.2.1] at l
    have i := ih (by omega)
    show _ ≤ (qf_z W o n p + W (qf_m o (p + 1) n) (o p)) + _ ∧ (qf_z W o n p + W (qf_m o (p + 1) n) (o p)) + _ ≤ _
    omega
theorem qf_zN {n : Nat} {W : Nat → Nat → Int} {L G : Nat → Int} {o : Nat → Nat} (hn : n < 6) (ho : qf_pm n o) (hL : ∀ s, s < 2 ^ n → qf_lo n W L G s) : L (2 ^ n - 1) ≤ qf_z W o n n ∧ qf_z W o n n ≤ G (2 ^ n - 1) := by
  have b := qf_zB hn ho hL n (Nat.le_refl n)
  rw [qf_m0 o (Nat.le_refl n)] at b
  have p := qf_pn n hn
  have l := hL 0 (by omega)
  have l1 := l.2.1
  have l2 := l.2.2.1
  rw [qf_on0] at l1
  omega
/-! the greedy chain -/
def qf_bs (P : Nat → Bool) : Nat → Nat → Nat
  | 0, _ => 0
  | k + 1, v => if P v = true then v else qf_bs P k (v + 1)
theorem qf_bsE {P : Nat → Bool} (k : Nat) : ∀ v, (∃ u, v ≤ u ∧ u < v + k ∧ P u = true) → P (qf_bs P k v) = true ∧ qf_bs P k v < v + k := by
  induction k with
  | zero =>
    rintro v ⟨u, h1, h2, _⟩
    omega
  | succ k ih =>
    rintro v ⟨u, h1, h2, h3⟩
    by_cases c : P v = true
    · rw [show qf_bs P (k + 1) v = v from if_pos c]
      exact ⟨c, by omega⟩
    · rw [show qf_bs P (k + 1) v = qf_bs P k (v + 1) from if_neg c]
      have ne : u ≠ v := fun e => c (by rw [← e]; exact h3)
      have t := ih (v + 1) ⟨u, by omega, by omega, h3⟩
      exact ⟨t.1, by omega⟩
def qf_pb (a3 a4 : Nat → Int32) (s v : Nat) : Bool := s.testBit v && decide (a3 (5 * qf_d s v + v) + a4 (qf_d s v) = a4 s)
def qf_bt (a3 a4 : Nat → Int32) (n s : Nat) : Nat := qf_bs (qf_pb a3 a4 s) n 0
def qf_st (a3 a4 : Nat → Int32) (n : Nat) : Nat → Nat
  | 0 => 2 ^ n - 1
  | p + 1 => qf_d (qf_st a3 a4 n p) (qf_bt a3 a4 n (qf_st a3 a4 n p))
def qf_ch (a3 a4 : Nat → Int32) (n p : Nat) : Nat := qf_bt a3 a4 n (qf_st a3 a4 n p)
section
variable {n : Nat} {a3 a4 a5 : Nat → Int32}
theorem qf_sum (hn : n < 6) (hw : qf_w a3) (hL : ∀ s, s < 2 ^ n → qf_lo n (qf_W a3) (qf_V a4) (qf_V a5) s) {s v : Nat} (hs : s < 2 ^ n) : (a3 (5 * qf_d s v + v) + a4 (qf_d s v)).toInt = qf_W a3 (qf_d s v) v + qf_V a4 (qf_d s v) := by
  have p := qf_pn n hn
  have d := qf_dle s v
  have w := hw (5 * qf_d s v + v)
  have l := hL (qf_d s v) (by omega)
  have o := qf_on5 (qf_d s v) (by omega)
  have l1 : 0 ≤ (a4 (qf_d s v)).toInt := l.1
  have l2 : (a4 (qf_d s v)).toInt ≤ 48 * (qf_o (qf_d s v) : Int) := l.2.1
  exact qf_add (by omega) (by omega) (by omega) (by omega)
theorem qf_btE (hn : n < 6) (hw : qf_w a3) (hL : ∀ s, s < 2 ^ n → qf_lo n (qf_W a3) (qf_V a4) (qf_V a5) s) {s : Nat} (hs : s < 2 ^ n) (h0 : 0 < s) :
    qf_bt a3 a4 n s < n ∧ s.testBit (qf_bt a3 a4 n s) = true ∧ qf_V a4 s = qf_W a3 (qf_d s (qf_bt a3 a4 n s)) (qf_bt a3 a4 n s) + qf_V a4 (qf_d s (qf_bt a3 a4 n s)) := by
  obtain ⟨u, hu, hb, e⟩ := (hL s hs).2.2.2.2.2 h0
  have t := qf_bsE (P := qf_pb a3 a4 s) n 0 ⟨u, by omega, by omega, by
    unfold qf_pb
    rw [hb, Bool.true_and, decide_eq_true_iff, qf_eqI, qf_sum hn hw hL hs]
    exact e.symm⟩
  have t1 : qf_pb a3 a4 s (qf_bt a3 a4 n s) = true := t.1
  have t2 : qf_bt a3 a4 n s < 0 + n := t.2
  unfold qf_pb at t1
  rw [Bool.and_eq_true, decide_eq_true_iff, qf_eqI, qf_sum hn hw hL hs] at t1
  exact ⟨by omega, t1.1, t1.2.symm⟩
theorem qf_stM {o : Nat → Nat} (hn : n < 6) (ho : qf_pm n o) (p : Nat) : p ≤ n → (∀ j, j < p → o j = qf_ch a3 a4 n j) → qf_st a3 a4 n p = qf_m o p n := by
  induction p with
  | zero => exact fun _ _ => (qf_mA hn ho).symm
  | succ p ih =>
    intro hp hj
    have i := ih (by omega) (fun j h => hj j (by omega))
    have e : qf_bt a3 a4 n (qf_st a3 a4 n p) = o p := (hj p (by omega)).symm
    show qf_d (qf_st a3 a4 n p) (qf_bt a3 a4 n (qf_st a3 a4 n p)) = _
    rw [e, i]
    exact (qf_mD hn ho (show p < n by omega)).2.2.2.1
theorem qf_chP {o : Nat → Nat} (hn : n < 6) (ho : qf_pm n o) (hw : qf_w a3) (hL : ∀ s, s < 2 ^ n → qf_lo n (qf_W a3) (qf_V a4) (qf_V a5) s) {p : Nat} (hp : p < n) (hj : ∀ j, j < p → o j = qf_ch a3 a4 n j) : ∃ j, p ≤ j ∧ j < n ∧ o j = qf_ch a3 a4 n p := by
  have e := qf_stM (a3 := a3) (a4 := a4) hn ho p (by omega) hj
  have q := qf_mD hn ho hp
  have b := qf_btE hn hw hL q.1 q.2.2.2.2.1
  unfold qf_ch
  rw [e]
  exact (qf_mT o p _ n).mp b.2.1
theorem qf_zE {o : Nat → Nat} (hn : n < 6) (ho : qf_pm n o) (hw : qf_w a3) (hL : ∀ s, s < 2 ^ n → qf_lo n (qf_W a3) (qf_V a4) (qf_V a5) s) (hj : ∀ j, j < n → o j = qf_ch a3 a4 n j) (p : Nat) : p ≤ n → qf_z (qf_W a3) o n p + qf_V a4 (qf_m o p n) = qf_V a4 (2 ^ n - 1) := by
  induction p with
  | zero =>
    intro _
    rw [qf_mA hn ho]
    show 0 + _ = _
    omega
  | succ p ih =>
    intro hp
    have q := qf_mD hn ho (show p < n by omega)
    have b := (qf_btE hn hw hL q.1 q.2.2.2.2.1).2.2
    have e := qf_stM (a3 := a3) (a4 := a4) hn ho p (by omega) (fun j h => hj j (by omega))
    have c : qf_bt a3 a4 n (qf_m o p n) = o p := by
      rw [← e]
      exact (hj p (by omega)).symm
    rw [c, q.2.2.2.1] at b
    have i := ih (by omega)
    show (qf_z (qf_W a3) o n p + qf_W a3 (qf_m o (p + 1) n) (o p)) + _ = _
    omega
theorem qf_zZ {o : Nat → Nat} (hn : n < 6) (ho : qf_pm n o) (hw : qf_w a3) (hL : ∀ s, s < 2 ^ n → qf_lo n (qf_W a3) (qf_V a4) (qf_V a5) s) (hj : ∀ j, j < n → o j = qf_ch a3 a4 n j) : qf_z (qf_W a3) o n n = qf_V a4 (2 ^ n - 1) := by
  have b := qf_zE hn ho hw hL hj n (Nat.le_refl n)
  rw [qf_m0 o (Nat.le_refl n)] at b
  have p := qf_pn n hn
  have l := hL 0 (by omega)
  have l1 := l.2.1
  have l2 := l.1
  rw [qf_on0] at l1
  omega
end
/-! swapping two places -/
def qf_sw (o : Nat → Nat) (p q i : Nat) : Nat := if i = q then o p else if i = p then o q else o i
theorem qf_swP {n : Nat} {o : Nat → Nat} {p q : Nat} (ho : qf_pm n o) (hp : p < n) (hq : q < n) : qf_pm n (qf_sw o p q) := by
  refine ⟨fun i hi => ?_, fun i j hi hj e => ?_⟩
  · unfold qf_sw
    split
    · exact ho.1 p hp
    · split
      · exact ho.1 q hq
      · exact ho.1 i hi
  · unfold qf_sw at e
    by_cases iq : i = q
    · rw [if_pos iq] at e
      by_cases jq : j = q
      · omega
      · rw [if_neg jq] at e
        by_cases jp : j = p
        · rw [if_pos jp] at e
          have := ho.2 p q hp hq e
          omega
        · rw [if_neg jp] at e
          have := ho.2 p j hp hj e
          omega
    · rw [if_neg iq] at e
      by_cases ip : i = p
      · rw [if_pos ip] at e
        by_cases jq : j = q
        · rw [if_pos jq] at e
          have := ho.2 q p hq hp e
          omega
        · rw [if_neg jq] at e
          by_cases jp : j = p
          · omega
          · rw [if_neg jp] at e
            have := ho.2 q j hq hj e
            omega
      · rw [if_neg ip] at e
        by_cases jq : j = q
        · rw [if_pos jq] at e
          have := ho.2 i p hi hp e
          omega
        · rw [if_neg jq] at e
          by_cases jp : j = p
          · rw [if_pos jp] at e
            have := ho.2 i q hi hq e
            omega
          · rw [if_neg jp] at e
            exact ho.2 i j hi hj e
theorem qf_swA {n : Nat} {o : Nat → Nat} {a2 : Nat → Int32} {p q : Nat} (h : ∀ i, i < n → a2 i = nI (o i)) (hp : p < n) (hq : q < n) : ∀ i, i < n → upd (upd a2 p (a2 q)) q (a2 p) i = nI (qf_sw o p q i) := by
  intro i hi
  unfold qf_sw
  by_cases e : i = q
  · rw [if_pos e, e, pk_us]
    exact h p hp
  · rw [if_neg e, pk_un e]
    by_cases f : i = p
    · rw [if_pos f, f, pk_us]
      exact h q hq
    · rw [if_neg f, pk_un f]
      exact h i hi
end
section
/-! what the class answers -/
section
variable {n : Nat} {ff fk fo : Int32} {a1 a2 a3 a4 a5 a6 a7 : Nat → Int32} {o : Nat → Nat}
theorem qf_leastA {post : Int32 → St2 → Prop} (hn : n < 6) (hw : qf_w a3) (hk : fk = 0 ∨ fk = 1 ∧ qf_K n a3 a4 a5 a6)
    (hp : ∀ (go : Int32) (b3 b4 b5 b6 b7 : Nat → Int32), qf_K n b3 b4 b5 b6 → post (b4 (2 ^ n - 1)) (nI n, nI (2 ^ n - 1), 1, go, a1, a2, b3, b4, b5, b6, b7)) :
    wpX_least post (nI n, nI (2 ^ n - 1), fk, fo, a1, a2, a3, a4, a5, a6, a7) := by
  have p := qf_pn n hn
  unfold wpX_least
  refine qf_wo hn hw hk (fun go b3 b4 b5 b6 b7 k => ⟨pk_in (2 ^ n - 1) 32 (by omega), ?_⟩)
  rw [nI_clamp (by omega)]
  exact hp go b3 b4 b5 b6 b7 k
theorem qf_least1 {post : Int32 → St2 → Prop} (hn : n < 6) (hp : post (a4 (2 ^ n - 1)) (nI n, nI (2 ^ n - 1), 1, fo, a1, a2, a3, a4, a5, a6, a7)) :
    wpX_least post (nI n, nI (2 ^ n - 1), 1, fo, a1, a2, a3, a4, a5, a6, a7) := by
  have p := qf_pn n hn
  unfold wpX_least
  refine qf_wo1 ⟨pk_in (2 ^ n - 1) 32 (by omega), ?_⟩
  rw [nI_clamp (by omega)]
  exact hp
theorem qf_great1 {post : Int32 → St2 → Prop} (hn : n < 6) (hp : post (a5 (2 ^ n - 1)) (nI n, nI (2 ^ n - 1), 1, fo, a1, a2, a3, a4, a5, a6, a7)) :
    wpX_greatest post (nI n, nI (2 ^ n - 1), 1, fo, a1, a2, a3, a4, a5, a6, a7) := by
  have p := qf_pn n hn
  unfold wpX_greatest
  refine qf_wo1 ⟨pk_in (2 ^ n - 1) 32 (by omega), ?_⟩
  rw [nI_clamp (by omega)]
  exact hp
theorem qf_inr {post : Int32 → Prop} {v : Nat} (hn : n < 6) (hv : v < n) (hp : post 1) : wpX_inRange post (nI n, ff, fk, fo, a1, a2, a3, a4, a5, a6, a7) (nI v) :=
  br_f (nI_pos (by omega)) (pk_le n v (fun z => absurd z (by omega)) (fun _ => hp))
theorem qf_wa6 {post : Int32 → Prop} {p : Nat} (hn : n < 6) (ha : ∀ i, i < n → a2 i = nI (o i)) (ho : qf_pm n o) (hp' : p < n) (hp : post (a3 (5 * qf_m o (p + 1) n + o p))) :
    ∃ k, wX_widthAt_6 post (nI p) (nI n) ff fk fo a1 a2 a3 a4 a5 a6 a7 k 0 (nI (p + 1)) := by
  have p32 := qf_pn n hn
  have h : ∃ k, wX_widthAt_6 post (nI p) (nI n) ff fk fo a1 a2 a3 a4 a5 a6 a7 k (nI (qf_m o (p + 1) (p + 1))) (nI (p + 1)) := by
    refine pk_loop (σ := Unit) (fun k i _ => wX_widthAt_6 post (nI p) (nI n) ff fk fo a1 a2 a3 a4 a5 a6 a7 k (nI (qf_m o (p + 1) i)) (nI i)) (fun i _ => p + 1 ≤ i) n (p + 1) () (by omega) (Nat.le_refl _) ?_ ?_
    · intro k _ h
      have m := qf_mL (p + 1) ho.1 n (Nat.le_refl n)
      have q := ho.1 p hp'
      refine pk_le n n (fun _ => ⟨pk_in p 5 (by omega), ?_⟩) (fun z => absurd z (by omega))
      rw [nI_clamp (show p < 2 ^ 31 by omega), ha p hp', qf_ix, nI_clamp (by omega)]
      exact ⟨pk_in (5 * qf_m o (p + 1) n + o p) 160 (by omega), hp⟩
    · intro k i _ hi h hw'
      have h' : p + 1 ≤ i := h
      have m := qf_mL (p + 1) ho.1 i (by omega)
      have q := ho.1 i hi
      refine pk_le n i (fun z => absurd z (by omega)) (fun _ => ⟨pk_in i 5 (by omega), nm_r (e' := nI (qf_m o (p + 1) (i + 1))) ?_ (nm_r (nI_1 i) (hw' () (by show p + 1 ≤ i + 1; omega)))⟩)
      rw [nI_clamp (show i < 2 ^ 31 by omega), ha i hi, show qf_m o (p + 1) (i + 1) = qf_i (qf_m o (p + 1) i) (o i) from if_pos h']
      exact qf_ins _ (by omega) _ (by omega)
  rw [qf_m0 o (Nat.le_refl _)] at h
  exact h
theorem qf_wat {post : Int32 → Prop} {p : Nat} (hn : n < 6) (ha : ∀ i, i < n → a2 i = nI (o i)) (ho : qf_pm n o) (hp' : p < n) (hp : post (a3 (5 * qf_m o (p + 1) n + o p))) :
    wpX_widthAt post (nI n, ff, fk, fo, a1, a2, a3, a4, a5, a6, a7) (nI p) :=
  nm_r (nI_1 p) (qf_wa6 hn ha ho hp' hp)
theorem qf_sz8 {post : Int32 → St2 → Prop} (hn : n < 6) (hw : qf_w a3) (ha : ∀ i, i < n → a2 i = nI (o i)) (ho : qf_pm n o)
    (hp : ∀ r : Int32, r.toInt = qf_z (qf_W a3) o n n → post r (nI n, ff, fk, fo, a1, a2, a3, a4, a5, a6, a7)) :
    ∃ k, wX_size_8 post (nI n) ff fk fo a1 a2 a3 a4 a5 a6 a7 k 0 0 := by
  refine pk_loop (σ := Int32) (fun k i s => wX_size_8 post (nI n) ff fk fo a1 a2 a3 a4 a5 a6 a7 k s (nI i)) (fun i s => s.toInt = qf_z (qf_W a3) o n i ∧ 0 ≤ s.toInt ∧ s.toInt ≤ 48 * (i : Int)) n 0 0 (by omega) ?_ ?_ ?_
  · show (0 : Int32).toInt = (0 : Int) ∧ 0 ≤ (0 : Int32).toInt ∧ (0 : Int32).toInt ≤ 48 * ((0 : Nat) : Int)
    rw [qf_0]
    decide
  · intro k s h
    exact pk_le n n (fun _ => hp s h.1) (fun z => absurd z (by omega))
  · intro k i s hi h hw'
    obtain ⟨h1, h2, h3⟩ := h
    have w := hw (5 * qf_m o (i + 1) n + o i)
    have e : (s + a3 (5 * qf_m o (i + 1) n + o i)).toInt = s.toInt + (a3 (5 * qf_m o (i + 1) n + o i)).toInt := qf_add (by omega) (by omega) (by omega) (by omega)
    refine pk_le n i (fun z => absurd z (by omega)) (fun _ => qf_wat hn ha ho hi (nm_e (nm_r (nI_1 i) (hw' (s + a3 (5 * qf_m o (i + 1) n + o i)) ⟨?_, ?_, ?_⟩))))
    · rw [e, h1]
      rfl
    · rw [e]
      omega
    · rw [e]
      omega
theorem qf_size1 {post : Int32 → St2 → Prop} (hn : n < 6) (hw : qf_w a3) (ha : ∀ i, i < n → a2 i = nI (o i)) (ho : qf_pm n o)
    (hp : ∀ r : Int32, r.toInt = qf_z (qf_W a3) o n n → post r (nI n, ff, 1, fo, a1, a2, a3, a4, a5, a6, a7)) :
    wpX_size post (nI n, ff, 1, fo, a1, a2, a3, a4, a5, a6, a7) := by
  unfold wpX_size
  exact qf_wo1 (qf_sz8 hn hw ha ho hp)
theorem qf_ons {post : Int32 → Prop} {b : Nat} (hb : b < 32) (hp : post (nI (qf_o b))) : wpX_ones post () (nI b) := by
  have h : ∃ k, wX_ones_4 post (nI b) k (nI (qf_oc b 0)) (nI 0) := pk_loop (σ := Unit) (fun k i _ => wX_ones_4 post (nI b) k (nI (qf_oc b i)) (nI i)) (fun _ _ => True) 5 0 () (by omega) trivial
    (fun k _ _ => pk_le 5 5 (fun _ => hp) (fun z => absurd z (by omega)))
    (fun k i _ hi _ hw' => pk_le 5 i (fun z => absurd z (by omega)) (fun _ => nm_r (qf_on1 b hb i hi) (nm_r (nI_1 i) (hw' () trivial))))
  exact h
theorem qf_lw29 {post : Int32 → St2 → Prop} {v p : Nat} (hn : n < 6) (hk : qf_K n a3 a4 a5 a6) (hv : v < n) (hp' : p < n)
    (hp : ∀ r : Int32, qf_V a4 (2 ^ n - 1) ≤ r.toInt → (∀ b, b < 2 ^ n → b.testBit v = false → qf_o b = n - 1 - p → r.toInt ≤ qf_V a6 (qf_c n (qf_i b v)) + qf_W a3 b v + qf_V a4 b) → post r (nI n, nI (2 ^ n - 1), fk, fo, a1, a2, a3, a4, a5, a6, a7)) :
    ∃ k, wX_leastWith_29 post (nI v) (nI p) (nI n) (nI (2 ^ n - 1)) fk fo a1 a2 a3 a4 a5 a6 a7 k 1000 0 := by
  obtain ⟨p1, p2⟩ := qf_pn n hn
  obtain ⟨hw, hL, hB⟩ := hk
  refine pk_loop (σ := Int32) (fun k i s => wX_leastWith_29 post (nI v) (nI p) (nI n) (nI (2 ^ n - 1)) fk fo a1 a2 a3 a4 a5 a6 a7 k s (nI i))
    (fun i s => qf_V a4 (2 ^ n - 1) ≤ s.toInt ∧ ∀ b, b < i → b.testBit v = false → qf_o b = n - 1 - p → s.toInt ≤ qf_V a6 (qf_c n (qf_i b v)) + qf_W a3 b v + qf_V a4 b) (2 ^ n) 0 1000 (by omega) ?_ ?_ ?_
  · have l := (hL (2 ^ n - 1) (by omega)).2.1
    have o5 := qf_on5 (2 ^ n - 1) (by omega)
    exact ⟨by rw [qf_1000]; omega, fun b hb => absurd hb (by omega)⟩
  · intro k s h
    exact pk_lt (2 ^ n - 1) (2 ^ n) (fun _ => hp s h.1 h.2) (fun z => absurd z (by omega))
  · intro k i s hi h hw'
    obtain ⟨h1, h2⟩ := h
    refine pk_lt (2 ^ n - 1) i (fun z => absurd z (by omega)) (fun _ => ?_)
    by_cases hb : i.testBit v = true
    · refine br_f (mt (qf_bit i (by omega) v (by omega)).mp (by rw [hb]; decide)) (nm_r (nI_1 i) (hw' s ⟨h1, fun b hi' hb' ho' => ?_⟩))
      by_cases e : b = i
      · rw [e, hb] at hb'
        exact absurd hb' (by decide)
      · exact h2 b (by omega) hb' ho'
    · have hf : i.testBit v = false := by
        cases h : i.testBit v
        · rfl
        · exact absurd h hb
      have o5 := qf_on5 i (by omega)
      have j := qf_in n hn i hi v hv hf
      have c := qf_co n hn _ j.1
      have g := qf_lwG hn hL hB hi hv hf
      have lb := hL i hi
      have bb := hB _ c.1
      have o6 := qf_on5 (qf_c n (qf_i i v)) (by omega)
      have b1 : 0 ≤ (a6 (qf_c n (qf_i i v))).toInt := bb.1
      have b2 : (a6 (qf_c n (qf_i i v))).toInt ≤ 48 * (qf_o (qf_c n (qf_i i v)) : Int) := bb.2.1
      have l1 : 0 ≤ (a4 i).toInt := lb.1
      have l2 : (a4 i).toInt ≤ 48 * (qf_o i : Int) := lb.2.1
      have w := hw (5 * i + v)
      have e1 : (a6 (qf_c n (qf_i i v)) + a3 (5 * i + v)).toInt = (a6 (qf_c n (qf_i i v))).toInt + (a3 (5 * i + v)).toInt := qf_add (by omega) (by omega) (by omega) (by omega)
      have e2 : (a6 (qf_c n (qf_i i v)) + a3 (5 * i + v) + a4 i).toInt = qf_V a6 (qf_c n (qf_i i v)) + qf_W a3 i v + qf_V a4 i := by
        rw [qf_add (by omega) (by omega) (by omega) (by omega), e1]
        rfl
      have k1 : (nI (qf_c n (qf_i i v))).toNatClampNeg = qf_c n (qf_i i v) := nI_clamp (by omega)
      have k2 : (5 * nI i + nI v).toNatClampNeg = 5 * i + v := by rw [qf_ix, nI_clamp (by omega)]
      have k3 : (nI i).toNatClampNeg = i := nI_clamp (by omega)
      have hy : (nI n - 1) - nI p = nI (n - 1 - p) := by rw [show (1 : Int32) = nI 1 from rfl, pk_sub (by omega), pk_sub (by omega)]
      refine br_t ((qf_bit i (by omega) v (by omega)).mpr hf) (qf_ons (by omega) (pk_eq (qf_o i) (n - 1 - p) (fun e => ?_) (fun e => nm_r (nI_1 i) (hw' s ⟨h1, fun b hi' hb' ho' => ?_⟩)) (hy := hy)))
      · refine nm_r (qf_bef n hn i hi v hv) ⟨pk_in (qf_c n (qf_i i v)) 32 (by omega), pk_in (5 * i + v) 160 (by omega) (qf_ix _ _), pk_in i 32 (by omega), nm_r (e' := a6 (qf_c n (qf_i i v)) + a3 (5 * i + v) + a4 i) (by rw [k1, k2, k3]) (br_c (fun z => nm_r (nI_1 i) (hw' s ⟨h1, fun b hi' hb' ho' => ?_⟩)) (fun z => nm_r (nI_1 i) (hw' (a6 (qf_c n (qf_i i v)) + a3 (5 * i + v) + a4 i) ⟨?_, fun b hi' hb' ho' => ?_⟩)))⟩
        · by_cases eb : b = i
          · rw [qf_le, e2] at z
            rw [eb]
            exact z
          · exact h2 b (by omega) hb' ho'
        · rw [e2]
          exact g
        · by_cases eb : b = i
          · rw [eb, e2]
            exact Int.le_refl _
          · have t := h2 b (by omega) hb' ho'
            rw [qf_le] at z
            omega
      · by_cases eb : b = i
        · rw [eb] at ho'
          exact absurd ho' e
        · exact h2 b (by omega) hb' ho'
theorem qf_lw1 {post : Int32 → St2 → Prop} {v p : Nat} (hn : n < 6) (hk : qf_K n a3 a4 a5 a6) (hv : v < n) (hp' : p < n)
    (hp : ∀ r : Int32, qf_V a4 (2 ^ n - 1) ≤ r.toInt → (∀ b, b < 2 ^ n → b.testBit v = false → qf_o b = n - 1 - p → r.toInt ≤ qf_V a6 (qf_c n (qf_i b v)) + qf_W a3 b v + qf_V a4 b) → post r (nI n, nI (2 ^ n - 1), 1, fo, a1, a2, a3, a4, a5, a6, a7)) :
    wpX_leastWith post (nI n, nI (2 ^ n - 1), 1, fo, a1, a2, a3, a4, a5, a6, a7) (nI v) (nI p) := by
  unfold wpX_leastWith
  exact qf_inr hn hv (br_f (by decide) (qf_inr hn hp' (br_f (by decide) (qf_wo1 (qf_lw29 hn hk hv hp' hp)))))
theorem qf_bo2 {post : Int32 → Prop} {s : Nat} (hn : n < 6) (hs : s < 2 ^ n) (k : Nat) : ∀ v, v + k = n → post (nI (qf_bs (qf_pb a3 a4 s) k v)) → wX_bestOnTop_2 post (nI s) (nI n) ff fk fo a1 a2 a3 a4 a5 a6 a7 (k + 1) (nI v) := by
  have p := qf_pn n hn
  induction k with
  | zero =>
    intro v hv hp
    exact pk_le n v (fun _ => hp) (fun z => absurd z (by omega))
  | succ k ih =>
    intro v hv hp
    refine pk_le n v (fun z => absurd z (by omega)) (fun _ => ?_)
    have d := qf_dle s v
    by_cases hb : s.testBit v = true
    · refine br_f (mt (qf_bit s (by omega) v (by omega)).mp (by rw [hb]; decide)) (nm_r (qf_del s (by omega) v (by omega)) ⟨pk_in (5 * qf_d s v + v) 160 (by omega) (qf_ix _ _), pk_in (qf_d s v) 32 (by omega), pk_in s 32 (by omega), ?_⟩)
      rw [qf_ix, nI_clamp (show 5 * qf_d s v + v < 2 ^ 31 by omega), nI_clamp (show qf_d s v < 2 ^ 31 by omega), nI_clamp (show s < 2 ^ 31 by omega)]
      refine br_c (fun e => ?_) (fun e => nm_r (nI_1 v) (ih (v + 1) (by omega) ?_))
      · rw [show qf_bs (qf_pb a3 a4 s) (k + 1) v = v from if_pos (by unfold qf_pb; rw [hb, Bool.true_and]; exact decide_eq_true e)] at hp
        exact hp
      · rw [show qf_bs (qf_pb a3 a4 s) (k + 1) v = qf_bs (qf_pb a3 a4 s) k (v + 1) from if_neg (by unfold qf_pb; rw [hb, Bool.true_and]; exact fun z => e (of_decide_eq_true z))] at hp
        exact hp
    · have hf : s.testBit v = false := by
        cases h : s.testBit v
        · rfl
        · exact absurd h hb
      refine br_t ((qf_bit s (by omega) v (by omega)).mpr hf) (nm_r (nI_1 v) (ih (v + 1) (by omega) ?_))
      rw [show qf_bs (qf_pb a3 a4 s) (k + 1) v = qf_bs (qf_pb a3 a4 s) k (v + 1) from if_neg (by unfold qf_pb; rw [hf, Bool.false_and]; decide)] at hp
      exact hp
theorem qf_bto {post : Int32 → Prop} {s : Nat} (hn : n < 6) (hs : s < 2 ^ n) (hp : post (nI (qf_bt a3 a4 n s))) : wpX_bestOnTop post (nI n, ff, fk, fo, a1, a2, a3, a4, a5, a6, a7) (nI s) :=
  ⟨n + 1, qf_bo2 hn hs n 0 (by omega) hp⟩
theorem qf_bsL (P : Nat → Bool) (k : Nat) : ∀ v, qf_bs P k v = 0 ∨ qf_bs P k v < v + k := by
  induction k with
  | zero => exact fun v => Or.inl rfl
  | succ k ih =>
    intro v
    by_cases c : P v = true
    · rw [show qf_bs P (k + 1) v = v from if_pos c]
      exact Or.inr (by omega)
    · rw [show qf_bs P (k + 1) v = qf_bs P k (v + 1) from if_neg c]
      have t := ih (v + 1)
      omega
theorem qf_stL (a3 a4 : Nat → Int32) (hn : n < 6) (p : Nat) : qf_st a3 a4 n p < 2 ^ n := by
  have q := qf_pn n hn
  induction p with
  | zero =>
    show 2 ^ n - 1 < 2 ^ n
    omega
  | succ p ih => exact Nat.lt_of_le_of_lt (qf_dle _ _) ih
theorem qf_be24 {post : Int32 → St2 → Prop} {p : Nat} (hn : n < 6) (hp' : p < n) (hp : post (nI (qf_ch a3 a4 n p)) (nI n, nI (2 ^ n - 1), fk, fo, a1, a2, a3, a4, a5, a6, a7)) :
    ∃ k, wX_best_24 post (nI p) (nI n) (nI (2 ^ n - 1)) fk fo a1 a2 a3 a4 a5 a6 a7 k (nI (2 ^ n - 1)) 0 0 := by
  have p32 := qf_pn n hn
  refine pk_loop (σ := Int32) (fun k i s => wX_best_24 post (nI p) (nI n) (nI (2 ^ n - 1)) fk fo a1 a2 a3 a4 a5 a6 a7 k (nI (qf_st a3 a4 n i)) s (nI i)) (fun i s => i = p + 1 → s = nI (qf_ch a3 a4 n p)) (p + 1) 0 0 (by omega) (fun z => absurd z (by omega)) ?_ ?_
  · intro k s h
    refine pk_lt p (p + 1) (fun _ => ?_) (fun z => absurd z (by omega))
    rw [h rfl]
    exact hp
  · intro k i s hi h hw'
    have b := qf_bsL (qf_pb a3 a4 (qf_st a3 a4 n i)) n 0
    have b' : qf_bt a3 a4 n (qf_st a3 a4 n i) < 5 := by
      unfold qf_bt
      omega
    have l := qf_stL a3 a4 hn i
    exact pk_lt p i (fun z => absurd z (by omega)) (fun _ => qf_bto hn l (nm_r (e' := nI (qf_st a3 a4 n (i + 1))) (qf_del _ (by omega) _ b') (nm_r (nI_1 i) (hw' (nI (qf_bt a3 a4 n (qf_st a3 a4 n i))) (fun e => by
      have e' : i = p := by omega
      rw [e']
      rfl)))))
theorem qf_best1 {post : Int32 → St2 → Prop} {p : Nat} (hn : n < 6) (hp' : p < n) (hp : post (nI (qf_ch a3 a4 n p)) (nI n, nI (2 ^ n - 1), 1, fo, a1, a2, a3, a4, a5, a6, a7)) :
    wpX_best post (nI n, nI (2 ^ n - 1), 1, fo, a1, a2, a3, a4, a5, a6, a7) (nI p) := by
  unfold wpX_best
  exact qf_inr hn hp' (br_f (by decide) (qf_wo1 (qf_be24 hn hp' hp)))
theorem qf_atE {post : Int32 → Prop} {p : Nat} (hn : n < 6) (hp' : p < n) (hp : post (a2 p)) : wpX_at post (nI n, ff, fk, fo, a1, a2, a3, a4, a5, a6, a7) (nI p) := by
  have e : (nI p).toNatClampNeg = p := nI_clamp (by omega)
  unfold wpX_at
  refine qf_inr hn hp' (br_f (by decide) ⟨pk_in p 5 (by omega), ?_⟩)
  rw [e]
  exact hp
theorem qf_swE {post : Int32 → St2 → Prop} {p q : Nat} (hn : n < 6) (hp' : p < n) (hq' : q < n) (hp : post 0 (nI n, ff, fk, fo, a1, upd (upd a2 p (a2 q)) q (a2 p), a3, a4, a5, a6, a7)) :
    wpX_swap post (nI n, ff, fk, fo, a1, a2, a3, a4, a5, a6, a7) (nI p) (nI q) := by
  have e : (nI p).toNatClampNeg = p := nI_clamp (by omega)
  have f : (nI q).toNatClampNeg = q := nI_clamp (by omega)
  unfold wpX_swap
  exact qf_inr hn hp' (br_f (by decide) (qf_inr hn hq' (br_f (by decide) ⟨pk_in p 5 (by omega), nm_r (e' := a2 p) (by rw [e]) ⟨pk_in q 5 (by omega), pk_in p 5 (by omega), nm_r (e' := upd a2 p (a2 q)) (by rw [e, f]) ⟨pk_in q 5 (by omega), nm_r (e' := upd (upd a2 p (a2 q)) q (a2 p)) (by rw [f]) hp⟩⟩⟩)))
end
end
section
/-! the law's two checks -/
section
variable {n : Nat} {fk fo : Int32} {a1 a2 a3 a4 a5 a6 a7 : Nat → Int32} {o : Nat → Nat}
theorem qf_b42 {post : Int32 → St2 → Prop} {J : Int32 → Int32 → Int32 → Int32 → Int32 → (Nat → Int32) → (Nat → Int32) → (Nat → Int32) → (Nat → Int32) → (Nat → Int32) → (Nat → Int32) → (Nat → Int32) → Prop} {p : Nat} (hn : n < 6) (hk : qf_K n a3 a4 a5 a6) (hp' : p < n)
    (hJ : J (nI (p + 1)) (nI n) (nI (2 ^ n - 1)) 1 fo a1 a2 a3 a4 a5 a6 a7) :
    ∃ k, wL_bounded_42 post J (nI n) (a4 (2 ^ n - 1)) (nI p) k 1000 0 (nI n) (nI (2 ^ n - 1)) 1 fo a1 a2 a3 a4 a5 a6 a7 := by
  obtain ⟨p1, p2⟩ := qf_pn n hn
  refine pk_loop (σ := Int32) (fun k i s => wL_bounded_42 post J (nI n) (a4 (2 ^ n - 1)) (nI p) k s (nI i) (nI n) (nI (2 ^ n - 1)) 1 fo a1 a2 a3 a4 a5 a6 a7)
    (fun i s => qf_V a4 (2 ^ n - 1) ≤ s.toInt ∧ ∀ v, v < i → ∀ b, b < 2 ^ n → b.testBit v = false → qf_o b = n - 1 - p → s.toInt ≤ qf_V a6 (qf_c n (qf_i b v)) + qf_W a3 b v + qf_V a4 b) n 0 1000 (by omega) ?_ ?_ ?_
  · have l := (hk.2.1 (2 ^ n - 1) (by omega)).2.1
    have o5 := qf_on5 (2 ^ n - 1) (by omega)
    exact ⟨by rw [qf_1000]; omega, fun v hv => absurd hv (by omega)⟩
  · intro k s h
    obtain ⟨h1, h2⟩ := h
    obtain ⟨b, v, hb, hv, hf, ho, hl⟩ := qf_lwA hn hk.2.1 hk.2.2 hp'
    have t := h2 v hv b hb hf ho
    have e : s.toInt = (a4 (2 ^ n - 1)).toInt := by
      have h1' : (a4 (2 ^ n - 1)).toInt ≤ s.toInt := h1
      have hl' : qf_V a6 (qf_c n (qf_i b v)) + qf_W a3 b v + qf_V a4 b ≤ (a4 (2 ^ n - 1)).toInt := hl
      omega
    exact pk_le n n (fun _ => br_t (qf_eqI.mpr e) (nm_r (nI_1 p) hJ)) (fun z => absurd z (by omega))
  · intro k i s hi h hw'
    obtain ⟨h1, h2⟩ := h
    refine pk_le n i (fun z => absurd z (by omega)) (fun _ => qf_lw1 hn hk hi hp' (fun r g1 g2 => br_c (fun z => nm_r (nI_1 i) (hw' s ⟨h1, fun v hv b hb hf ho => ?_⟩)) (fun z => nm_r (nI_1 i) (hw' r ⟨g1, fun v hv b hb hf ho => ?_⟩))))
    · by_cases e : v = i
      · rw [e] at hf ⊢
        have t := g2 b hb hf ho
        rw [qf_le] at z
        omega
      · exact h2 v (by omega) b hb hf ho
    · by_cases e : v = i
      · rw [e] at hf ⊢
        exact g2 b hb hf ho
      · have t := h2 v (by omega) b hb hf ho
        rw [qf_le] at z
        omega
theorem qf_b28 {post : Int32 → St2 → Prop} (hn : n < 6) (hk : qf_K n a3 a4 a5 a6) (hp : post 1 (nI n, nI (2 ^ n - 1), 1, fo, a1, a2, a3, a4, a5, a6, a7)) :
    ∃ k, wL_bounded_28 post (nI n) (a4 (2 ^ n - 1)) k 0 (nI n) (nI (2 ^ n - 1)) 1 fo a1 a2 a3 a4 a5 a6 a7 :=
  pk_loop (σ := Unit) (fun k i _ => wL_bounded_28 post (nI n) (a4 (2 ^ n - 1)) k (nI i) (nI n) (nI (2 ^ n - 1)) 1 fo a1 a2 a3 a4 a5 a6 a7) (fun _ _ => True) n 0 () (by omega) trivial
    (fun k _ _ => pk_le n n (fun _ => hp) (fun z => absurd z (by omega)))
    (fun k i _ hi _ hw' => pk_le n i (fun z => absurd z (by omega)) (fun _ => qf_b42 hn hk hi (hw' () trivial)))
/-- the object's state as the law's loop sees it -/
def qf_I (n : Nat) (fk : Int32) (a2 a3 a4 a5 a6 : Nat → Int32) : Prop :=
  (∃ o : Nat → Nat, (∀ i, i < n → a2 i = nI (o i)) ∧ qf_pm n o) ∧ qf_w a3 ∧ (fk = 0 ∨ fk = 1 ∧ qf_K n a3 a4 a5 a6)
theorem qf_bd {post : Int32 → St2 → Prop} (hn : n < 6) (hI : qf_I n fk a2 a3 a4 a5 a6)
    (hp : ∀ (go : Int32) (b3 b4 b5 b6 b7 : Nat → Int32), qf_K n b3 b4 b5 b6 → post 1 (nI n, nI (2 ^ n - 1), 1, go, a1, a2, b3, b4, b5, b6, b7)) :
    wpL_bounded post (nI n, nI (2 ^ n - 1), fk, fo, a1, a2, a3, a4, a5, a6, a7) (nI n) := by
  obtain ⟨⟨o, ha, ho⟩, hw, hk⟩ := hI
  unfold wpL_bounded
  refine qf_leastA hn hw hk (fun go b3 b4 b5 b6 b7 k => qf_size1 hn k.1 ha ho (fun r hr => ?_))
  have z := qf_zN hn ho k.2.1
  have z1 : (b4 (2 ^ n - 1)).toInt ≤ r.toInt := by
    rw [hr]
    exact z.1
  have z2 : r.toInt ≤ (b5 (2 ^ n - 1)).toInt := by
    rw [hr]
    exact z.2
  exact br_f (fun t => absurd (qf_lt.mp t) (by omega)) (qf_great1 hn (br_t (qf_le.mpr z2) (qf_b28 hn k (hp go b3 b4 b5 b6 b7 k))))
theorem qf_p16 {post : Int32 → St2 → Prop} {J : Int32 → Int32 → Int32 → Int32 → Int32 → (Nat → Int32) → (Nat → Int32) → (Nat → Int32) → (Nat → Int32) → (Nat → Int32) → (Nat → Int32) → (Nat → Int32) → Prop} {ff : Int32} {p v : Nat} (hn : n < 6) (hp' : p < n) (ha : ∀ i, i < n → a2 i = nI (o i)) (ho : qf_pm n o) (hex : ∃ j, p ≤ j ∧ j < n ∧ o j = v)
    (hJ : ∀ (b2 : Nat → Int32) (o' : Nat → Nat), (∀ i, i < n → b2 i = nI (o' i)) → qf_pm n o' → (∀ j, j < p → o' j = o j) → o' p = v → J (nI (p + 1)) (nI n) ff fk fo a1 b2 a3 a4 a5 a6 a7) :
    ∃ k, wL_placed_16 post J (nI n) (nI p) (nI v) k (nI p) (nI n) ff fk fo a1 a2 a3 a4 a5 a6 a7 := by
  have hv : v < n := by
    obtain ⟨j, _, hj, e⟩ := hex
    rw [← e]
    exact ho.1 j hj
  refine pk_loop (σ := Nat → Int32) (fun k i s => wL_placed_16 post J (nI n) (nI p) (nI v) k (nI i) (nI n) ff fk fo a1 s a3 a4 a5 a6 a7)
    (fun i s => p ≤ i ∧ ∃ o' : Nat → Nat, (∀ i, i < n → s i = nI (o' i)) ∧ qf_pm n o' ∧ (∀ j, j < p → o' j = o j) ∧ (o' p = v ∨ ∃ j, i ≤ j ∧ j < n ∧ o' j = v)) n p a2 (by omega) ?_ ?_ ?_
  · exact ⟨Nat.le_refl p, o, ha, ho, fun _ _ => rfl, Or.inr hex⟩
  · intro k s h
    obtain ⟨_, o', h1, h2, h3, h4⟩ := h
    have e : o' p = v := by
      rcases h4 with e | ⟨j, j1, j2, _⟩
      · exact e
      · omega
    exact pk_le n n (fun _ => qf_atE hn hp' (br_t (by rw [h1 p hp', e]) (nm_r (nI_1 p) (hJ s o' h1 h2 h3 e)))) (fun z => absurd z (by omega))
  · intro k i s hi h hw'
    obtain ⟨h0, o', h1, h2, h3, h4⟩ := h
    have b := h2.1 i hi
    refine pk_le n i (fun z => absurd z (by omega)) (fun _ => qf_atE hn hi (br_c (fun e => qf_swE hn hp' hi (br_t rfl (nm_r (nI_1 i) (hw' _ ⟨by omega, qf_sw o' p i, qf_swA h1 hp' hi, qf_swP h2 hp' hi, fun j hj => ?_, Or.inl ?_⟩)))) (fun e => nm_r (nI_1 i) (hw' s ⟨by omega, o', h1, h2, h3, ?_⟩))))
    · unfold qf_sw
      rw [if_neg (by omega), if_neg (by omega)]
      exact h3 j hj
    · rw [h1 i hi, nI_eq (by omega) (by omega)] at e
      unfold qf_sw
      by_cases c : p = i
      · rw [if_pos c, c]
        exact e
      · rw [if_neg c, if_pos rfl]
        exact e
    · rw [h1 i hi, nI_eq (by omega) (by omega)] at e
      rcases h4 with f | ⟨j, j1, j2, j3⟩
      · exact Or.inl f
      · refine Or.inr ⟨j, ?_, j2, j3⟩
        have ne : j ≠ i := fun c => e (by rw [← c]; exact j3)
        omega
theorem qf_pl {post : Int32 → St2 → Prop} (hn : n < 6) (hk : qf_K n a3 a4 a5 a6) (ha : ∀ i, i < n → a2 i = nI (o i)) (ho : qf_pm n o)
    (hp : ∀ (b2 : Nat → Int32) (o' : Nat → Nat), (∀ i, i < n → b2 i = nI (o' i)) → qf_pm n o' → post 1 (nI n, nI (2 ^ n - 1), 1, fo, a1, b2, a3, a4, a5, a6, a7)) :
    wpL_placed post (nI n, nI (2 ^ n - 1), 1, fo, a1, a2, a3, a4, a5, a6, a7) (nI n) := by
  unfold wpL_placed
  refine pk_loop (σ := Nat → Int32) (fun k i s => wL_placed_2 post (nI n) k (nI i) (nI n) (nI (2 ^ n - 1)) 1 fo a1 s a3 a4 a5 a6 a7)
    (fun i s => ∃ o' : Nat → Nat, (∀ i, i < n → s i = nI (o' i)) ∧ qf_pm n o' ∧ ∀ j, j < i → o' j = qf_ch a3 a4 n j) n 0 a2 (by omega) ?_ ?_ ?_
  · exact ⟨o, ha, ho, fun j hj => absurd hj (by omega)⟩
  · intro k s h
    obtain ⟨o', h1, h2, h3⟩ := h
    exact pk_le n n (fun _ => qf_size1 hn hk.1 h1 h2 (fun r hr => qf_least1 hn (br_t (qf_eqI.mpr (hr.trans (qf_zZ hn h2 hk.1 hk.2.1 h3))) (hp s o' h1 h2)))) (fun z => absurd z (by omega))
  · intro k i s hi h hw'
    obtain ⟨o', h1, h2, h3⟩ := h
    refine pk_le n i (fun z => absurd z (by omega)) (fun _ => qf_best1 hn hi (qf_p16 hn hi h1 h2 (qf_chP hn h2 hk.1 hk.2.1 hi h3) (fun b2 o'' g1 g2 g3 g4 => hw' b2 ⟨o'', g1, g2, fun j hj => ?_⟩)))
    by_cases e : j = i
    · rw [e]
      exact g4
    · rw [g3 j (by omega)]
      exact h3 j (by omega)
end
end
section
/-! load, flip, the constructor, the law's loop -/
section
variable {n : Nat} {fn ff fk fo : Int32} {a1 a2 a3 a4 a5 a6 a7 : Nat → Int32}
theorem qf_fl {post : Int32 → St2 → Prop} {f : Nat} {x : Int32} (hf : f < 3) (hp : ∀ (r gk : Int32) (b1 : Nat → Int32), (gk = 0 ∨ gk = fk) → post r (fn, ff, gk, fo, b1, a2, a3, a4, a5, a6, a7)) :
    wpX_flip post (fn, ff, fk, fo, a1, a2, a3, a4, a5, a6, a7) (nI f) x :=
  br_f (nI_pos (by omega)) (pk_lt 2 f (fun z => absurd z (by omega)) (fun _ => br_c (fun _ => hp _ _ _ (Or.inr rfl)) (fun _ => br_c (fun _ => ⟨pk_in f 3 hf, pk_in f 3 hf, nm_e ⟨pk_in f 3 hf, hp _ _ _ (Or.inl rfl)⟩⟩) (fun _ => hp _ _ _ (Or.inr rfl)))))
theorem qf_ld {post : Int32 → St2 → Prop} {f : Nat} {x : Int32} (hf : f < 3) (hp : ∀ (r gk : Int32) (b1 : Nat → Int32), (gk = 0 ∨ gk = fk) → post r (fn, ff, gk, fo, b1, a2, a3, a4, a5, a6, a7)) :
    wpX_load post (fn, ff, fk, fo, a1, a2, a3, a4, a5, a6, a7) (nI f) x :=
  br_f (nI_pos (by omega)) (pk_le f 2 (fun _ => br_c (fun _ => ⟨pk_in f 3 hf, nm_e (hp _ _ _ (Or.inl rfl))⟩) (fun _ => ⟨pk_in f 3 hf, nm_e (hp _ _ _ (Or.inl rfl))⟩)) (fun z => absurd z (by omega)))
theorem qf_ini {post : St2 → Prop} (hn1 : 1 ≤ n) (hn : n < 6) (hp : ∀ b2 : Nat → Int32, (∀ i, i < 5 → b2 i = nI i) → post (nI n, nI (2 ^ n - 1), 0, 0, fun _ => 0, b2, fun _ => 0, fun _ => 0, fun _ => 0, fun _ => 0, fun _ => 0)) :
    wpX_init post 7 328 (0, 0, 0, 0) (nI n) := by
  have main : ∃ k, wX_init_96 post 7 328 (0 + 7) (0 + 328) (nI n) (nI (2 ^ n - 1)) 0 0 k 0 (fun _ => 0) (fun _ => 0) (fun _ => 0) (fun _ => 0) (fun _ => 0) (fun _ => 0) (fun _ => 0) := by
    refine pk_loop (σ := Nat → Int32) (fun k i s => wX_init_96 post 7 328 (0 + 7) (0 + 328) (nI n) (nI (2 ^ n - 1)) 0 0 k (nI i) (fun _ => 0) s (fun _ => 0) (fun _ => 0) (fun _ => 0) (fun _ => 0) (fun _ => 0)) (fun i s => ∀ j, j < i → s j = nI j) 5 0 (fun _ => 0) (by omega) (fun j hj => absurd hj (by omega)) ?_ ?_
    · intro k s h
      exact pk_le 5 5 (fun _ => hp s h) (fun z => absurd z (by omega))
    · intro k i s hi h hw'
      have h' : ∀ j, j < i → s j = nI j := h
      refine pk_le 5 i (fun z => absurd z (by omega)) (fun _ => ⟨pk_in i 5 hi, nm_r (e' := upd s i (nI i)) (by rw [nI_clamp (by omega)]) (nm_r (nI_1 i) (hw' (upd s i (nI i)) (fun j hj => ?_)))⟩)
      by_cases e : j = i
      · rw [e, pk_us]
      · rw [pk_un e]
        exact h' j (by omega)
  exact pk_le 1 n (fun _ => pk_le n 5 (fun _ => nm_r (qf_full n hn) ⟨by decide, by decide, by decide, by decide, by decide, by decide, by decide, by decide, by decide, by decide, by decide, by decide, by decide, by decide, main⟩) (fun z => absurd z (by omega))) (fun z => absurd z (by omega))
end
theorem qf_rem (x : Int32) {d : Nat} (h0 : 0 < d) (hd : d < 6) : ∃ j, j < d ∧ (x &&& 255) - (x &&& 255) / nI d * nI d = nI j := by
  obtain ⟨j, hj, e⟩ := pk_andE x (m := 255) 8 (by decide)
  refine ⟨j % d, Nat.mod_lt _ h0, ?_⟩
  rw [e]
  exact pk_rem (by omega) h0 (by omega)
theorem qf_law {L n kc ks : Nat} {xs : Nat → Int32} {fk fo : Int32} {a1 a2 a3 a4 a5 a6 a7 : Nat → Int32} (hL : L ≤ 260) (hn1 : 1 ≤ n) (hn : n < 6) (hI : qf_I n fk a2 a3 a4 a5 a6) :
    ∃ k, wL_law_28 (fun r => r = 1) L xs (nI n) kc ks k 1 (nI n) (nI (2 ^ n - 1)) fk fo a1 a2 a3 a4 a5 a6 a7 := by
  have h3 : ∀ i : Nat, nI (1 + 3 * i) + 3 = nI (1 + 3 * i + 3) := fun i => nI_add _ 3
  have hx : ∀ i : Nat, nI (1 + 3 * i) + 3 = nI (1 + 3 * (i + 1)) := fun i => (h3 i).trans (congrArg nI (by omega))
  refine pk_loop (σ := Int32 × Int32 × (Nat → Int32) × (Nat → Int32) × (Nat → Int32) × (Nat → Int32) × (Nat → Int32) × (Nat → Int32) × (Nat → Int32))
    (fun k i s => wL_law_28 (fun r => r = 1) L xs (nI n) kc ks k (nI (1 + 3 * i)) (nI n) (nI (2 ^ n - 1)) s.1 s.2.1 s.2.2.1 s.2.2.2.1 s.2.2.2.2.1 s.2.2.2.2.2.1 s.2.2.2.2.2.2.1 s.2.2.2.2.2.2.2.1 s.2.2.2.2.2.2.2.2)
    (fun _ s => qf_I n s.1 s.2.2.2.1 s.2.2.2.2.1 s.2.2.2.2.2.1 s.2.2.2.2.2.2.1 s.2.2.2.2.2.2.2.1) ((L - 1) / 3) 0 (fk, fo, a1, a2, a3, a4, a5, a6, a7) (by omega) hI ?_ ?_
  · intro k s h
    obtain ⟨fk, fo, a1, a2, a3, a4, a5, a6, a7⟩ := s
    have hI : qf_I n fk a2 a3 a4 a5 a6 := h
    obtain ⟨o, ha, ho⟩ := hI.1
    show wL_law_28 (fun r => r = 1) L xs (nI n) kc ks (k + 1) (nI (1 + 3 * ((L - 1) / 3))) (nI n) (nI (2 ^ n - 1)) fk fo a1 a2 a3 a4 a5 a6 a7
    exact pk_lt L (1 + 3 * ((L - 1) / 3) + 3) (fun _ => qf_bd hn hI (fun go b3 b4 b5 b6 b7 K => br_f (by decide) (qf_pl hn K ha ho (fun b2 o' g1 g2 => br_f (by decide) rfl)))) (fun z => absurd z (by omega)) (hy := h3 _)
  · intro k i s hi h hw'
    obtain ⟨fk, fo, a1, a2, a3, a4, a5, a6, a7⟩ := s
    have hI : qf_I n fk a2 a3 a4 a5 a6 := h
    obtain ⟨o, ha, ho⟩ := hI.1
    have hk : ∀ gk : Int32, (gk = 0 ∨ gk = fk) → qf_I n gk a2 a3 a4 a5 a6 := fun gk hg => by
      rcases hg with e | e
      · exact ⟨hI.1, hI.2.1, Or.inl e⟩
      · rw [e]
        exact hI
    show wL_law_28 (fun r => r = 1) L xs (nI n) kc ks (k + 1) (nI (1 + 3 * i)) (nI n) (nI (2 ^ n - 1)) fk fo a1 a2 a3 a4 a5 a6 a7
    refine pk_lt L (1 + 3 * i + 3) (fun z => absurd z (by omega)) (fun _ => ⟨pk_in (1 + 3 * i) L (by omega), fun x5 _ => ⟨pk_in (1 + 3 * i + 1) L (by omega) (nI_1 _), fun x6 _ => ⟨pk_in (1 + 3 * i + 2) L (by omega) (nI_add _ 2), fun x7 _ => ?_⟩⟩⟩) (hy := h3 i)
    obtain ⟨p, hp, ep⟩ := qf_rem x6 (d := n) (by omega) hn
    obtain ⟨q, hq, eq⟩ := qf_rem x7 (d := n) (by omega) hn
    obtain ⟨f, hf, ef⟩ := qf_rem x6 (d := 3) (by omega) (by omega)
    have ef' : (x6 &&& 255) - (x6 &&& 255) / 3 * 3 = nI f := ef
    rw [ep, eq, ef']
    refine br_c (fun _ => br_c (fun _ => br_c (fun _ => ?_) (fun _ => ⟨nI_ne0 (by omega) (by omega), nI_ne0 (by omega) (by omega), ?_⟩)) (fun _ => ⟨by decide, ?_⟩)) (fun _ => ⟨by decide, ?_⟩)
    · refine qf_bd hn hI (fun go b3 b4 b5 b6 b7 K => br_f (by decide) (br_c (fun _ => qf_pl hn K ha ho (fun b2 o' g1 g2 => br_f (by decide) (nm_r (hx i) ?_))) (fun _ => nm_r (hx i) ?_)))
      · exact hw' (1, go, a1, b2, b3, b4, b5, b6, b7) ⟨⟨o', g1, g2⟩, K.1, Or.inr ⟨rfl, K⟩⟩
      · exact hw' (1, go, a1, a2, b3, b4, b5, b6, b7) ⟨⟨o, ha, ho⟩, K.1, Or.inr ⟨rfl, K⟩⟩
    · exact qf_swE hn hp hq (nm_r (hx i) (hw' (fk, fo, a1, _, a3, a4, a5, a6, a7) ⟨⟨qf_sw o p q, qf_swA ha hp hq, qf_swP ho hp hq⟩, hI.2⟩))
    · exact qf_fl hf (fun r gk b1 hg => nm_r (hx i) (hw' (gk, fo, b1, a2, a3, a4, a5, a6, a7) (hk gk hg)))
    · exact qf_ld hf (fun r gk b1 hg => nm_r (hx i) (hw' (gk, fo, b1, a2, a3, a4, a5, a6, a7) (hk gk hg)))
theorem i_vc (xs : Nat → Int32) (L : Nat) (hL : L ≤ 260) : wpL_law (fun r => r = 1) L xs := by
  have main : ∀ P : Int32 → Prop, (∀ r, P r) → wpL_cell P L xs () 0 := fun P h => pk_le L 0 (fun _ => h 0) (fun z => ⟨pk_in 0 L (by omega), h _⟩)
  unfold wpL_law
  refine main _ (fun r => ⟨by decide, fun x2 e2 => ?_⟩)
  obtain ⟨j, hj, ej⟩ := qf_rem r (d := 5) (by omega) (by omega)
  have ej' : (r &&& 255) - (r &&& 255) / 5 * 5 = nI j := ej
  have e : x2 = nI (1 + j) := by
    rw [e2, ej']
    exact nI_add 1 j
  rw [e]
  refine ⟨7, 328, by omega, by omega, qf_ini (by omega) (by omega) (fun b2 hb => qf_law hL (by omega) (by omega) ?_)⟩
  refine ⟨⟨fun i => i, fun i hi => hb i (by omega), fun i hi => hi, fun i j _ _ e => e⟩, fun j => ?_, Or.inl rfl⟩
  show 0 ≤ (0 : Int32).toInt ∧ (0 : Int32).toInt ≤ 48
  rw [qf_0]
  decide
end
