section
/-! the store of contents: pure rows -/
/-- content c is that of kind k, number x, insides a b d e -/
def ty_is (a1 a2 a3 : Nat → Int32) (c : Nat) (k x a b d e : Int32) : Prop :=
  a1 c = k ∧ a2 c = x ∧ a3 (4 * c) = a ∧ a3 (4 * c + 1) = b ∧ a3 (4 * c + 2) = d ∧ a3 (4 * c + 3) = e
def ty_hI (k x a b d e : Int32) : Int32 := ((((k * 31 + x) * 31 + a) * 31 + b) * 31 + d) * 31 + e
def ty_hJ (h : Int32) : Int32 := (h ^^^ ((h.toUInt32 >>> ((11 : Int32).toUInt32 &&& Int32.toUInt32 31)).toInt32)) ^^^ ((h.toUInt32 >>> ((22 : Int32).toUInt32 &&& Int32.toUInt32 31)).toInt32)
/-- the place where the search for a content begins -/
def ty_hs (k x a b d e : Int32) : Nat := (ty_hJ (ty_hI k x a b d e)).toBitVec.toNat % 2048
def ty_hk (a1 a2 a3 : Nat → Int32) (c : Nat) : Nat := ty_hs (a1 c) (a2 c) (a3 (4 * c)) (a3 (4 * c + 1)) (a3 (4 * c + 2)) (a3 (4 * c + 3))
/-- how many of the first n places of the table are taken -/
def ty_cnt (t : Nat → Int32) : Nat → Nat
  | 0 => 0
  | n + 1 => ty_cnt t n + (if t n = -1 then 0 else 1)
/-- the store is whole: m contents (0 is nothing), each found from its hash on, no two alike, the table with room -/
def ty_H (m : Nat) (a1 a2 a3 a4 : Nat → Int32) : Prop :=
  (1 ≤ m ∧ m ≤ 1000) ∧
  (∀ j, ∃ c, c < m ∧ a3 j = nI c) ∧
  (∀ j, j < 2048 → a4 j = -1 ∨ ∃ c, 1 ≤ c ∧ c < m ∧ a4 j = nI c) ∧
  ty_cnt a4 2048 < m ∧
  (∀ c, 1 ≤ c → c < m → ∃ d, d < 2048 ∧ a4 ((ty_hk a1 a2 a3 c + d) % 2048) = nI c ∧ ∀ e, e < d → a4 ((ty_hk a1 a2 a3 c + e) % 2048) ≠ -1) ∧
  (∀ c c', 1 ≤ c → c < m → 1 ≤ c' → c' < m → ty_is a1 a2 a3 c (a1 c') (a2 c') (a3 (4 * c')) (a3 (4 * c' + 1)) (a3 (4 * c' + 2)) (a3 (4 * c' + 3)) → c = c')
theorem ty_m1 {c : Nat} (h : c < 2 ^ 31) : nI c ≠ -1 := by
  intro e
  have e2 := congrArg Int32.toInt e
  rw [nI_toInt h, show (-1 : Int32).toInt = -1 from by decide] at e2
  omega
theorem ty_is_self (a1 a2 a3 : Nat → Int32) (c : Nat) : ty_is a1 a2 a3 c (a1 c) (a2 c) (a3 (4 * c)) (a3 (4 * c + 1)) (a3 (4 * c + 2)) (a3 (4 * c + 3)) := ⟨rfl, rfl, rfl, rfl, rfl, rfl⟩
theorem ty_hk_is {a1 a2 a3 : Nat → Int32} {c : Nat} {k x a b d e : Int32} (h : ty_is a1 a2 a3 c k x a b d e) : ty_hk a1 a2 a3 c = ty_hs k x a b d e := by
  obtain ⟨h1, h2, h3, h4, h5, h6⟩ := h
  unfold ty_hk
  rw [h1, h2, h3, h4, h5, h6]
theorem ty_cnt_full {t : Nat → Int32} : ∀ n, (∀ j, j < n → t j ≠ -1) → ty_cnt t n = n
  | 0, _ => rfl
  | n + 1, h => by
    show ty_cnt t n + (if t n = -1 then 0 else 1) = n + 1
    rw [ty_cnt_full n (fun j hj => h j (by omega)), if_neg (h n (by omega))]
theorem ty_cnt_none {t : Nat → Int32} : ∀ n, (∀ j, j < n → t j = -1) → ty_cnt t n = 0
  | 0, _ => rfl
  | n + 1, h => by
    show ty_cnt t n + (if t n = -1 then 0 else 1) = 0
    rw [ty_cnt_none n (fun j hj => h j (by omega)), if_pos (h n (by omega))]
theorem ty_cnt_below {t : Nat → Int32} {s : Nat} {v : Int32} : ∀ n, n ≤ s → ty_cnt (upd t s v) n = ty_cnt t n
  | 0, _ => rfl
  | n + 1, h => by
    show ty_cnt (upd t s v) n + (if upd t s v n = -1 then 0 else 1) = ty_cnt t n + (if t n = -1 then 0 else 1)
    rw [ty_cnt_below n (by omega), pk_un (show n ≠ s by omega)]
theorem ty_cnt_upd {t : Nat → Int32} {s : Nat} {v : Int32} : ∀ n, ty_cnt (upd t s v) n ≤ ty_cnt t n + 1
  | 0 => by
    show (0 : Nat) ≤ 0 + 1
    omega
  | n + 1 => by
    show ty_cnt (upd t s v) n + (if upd t s v n = -1 then 0 else 1) ≤ ty_cnt t n + (if t n = -1 then 0 else 1) + 1
    have ih := ty_cnt_upd (t := t) (s := s) (v := v) n
    by_cases e : n = s
    · have e2 : ty_cnt (upd t s v) n = ty_cnt t n := ty_cnt_below n (by omega)
      rw [e2]
      split <;> split <;> omega
    · rw [pk_un e]
      omega
/-- a search from any place on meets a free one -/
theorem ty_free {t : Nat → Int32} {m : Nat} (h : ty_cnt t 2048 < m) (hm : m ≤ 1000) (s : Nat) : ∃ i, i < 2048 ∧ t ((s + i) % 2048) = -1 ∧ ∀ j, j < i → t ((s + j) % 2048) ≠ -1 := by
  have ex : ∃ i, i < 2048 ∧ t ((s + i) % 2048) = -1 := by
    apply Classical.byContradiction
    intro hn
    have all : ∀ j, j < 2048 → t j ≠ -1 := by
      intro j hj hz
      refine hn ⟨(j + 2048 - s % 2048) % 2048, by omega, ?_⟩
      rw [show (s + (j + 2048 - s % 2048) % 2048) % 2048 = j by omega]
      exact hz
    have := ty_cnt_full 2048 all
    omega
  obtain ⟨i, ⟨hi, hz⟩, hl⟩ := pk_least (fun i => i < 2048 ∧ t ((s + i) % 2048) = -1) ex
  exact ⟨i, hi, hz, fun j hj hc => hl j hj ⟨by omega, hc⟩⟩
/-- a new content is stored -/
theorem ty_H_new {m : Nat} {a1 a2 a3 a4 b1 b2 b3 : Nat → Int32} {k x a b d e : Int32} {i : Nat} (h : ty_H m a1 a2 a3 a4) (hm : m < 1000)
    (hn : ∀ c, 1 ≤ c → c < m → ¬ ty_is a1 a2 a3 c k x a b d e)
    (hi : i < 2048) (he : a4 ((ty_hs k x a b d e + i) % 2048) = -1) (hl : ∀ j, j < i → a4 ((ty_hs k x a b d e + j) % 2048) ≠ -1)
    (E : ∀ c, c < m → ty_is b1 b2 b3 c (a1 c) (a2 c) (a3 (4 * c)) (a3 (4 * c + 1)) (a3 (4 * c + 2)) (a3 (4 * c + 3)))
    (N : ty_is b1 b2 b3 m k x a b d e) (J : ∀ j, ∃ c, c < m + 1 ∧ b3 j = nI c) :
    ty_H (m + 1) b1 b2 b3 (upd a4 ((ty_hs k x a b d e + i) % 2048) (nI m)) := by
  obtain ⟨⟨hm1, hm2⟩, h3, h4, hcnt, hr, hu⟩ := h
  refine ⟨⟨by omega, by omega⟩, J, ?_, ?_, ?_, ?_⟩
  · intro j hj
    by_cases ej : j = (ty_hs k x a b d e + i) % 2048
    · exact Or.inr ⟨m, hm1, by omega, by rw [ej, pk_us]⟩
    · rw [pk_un ej]
      rcases h4 j hj with z | ⟨c, c1, c2, c3⟩
      · exact Or.inl z
      · exact Or.inr ⟨c, c1, by omega, c3⟩
  · have := ty_cnt_upd (t := a4) (s := (ty_hs k x a b d e + i) % 2048) (v := nI m) 2048
    omega
  · have keep : ∀ q, a4 q ≠ -1 → upd a4 ((ty_hs k x a b d e + i) % 2048) (nI m) q = a4 q := by
      intro q hq
      refine pk_un (fun z => hq ?_)
      rw [z]
      exact he
    intro c c1 c2
    by_cases ec : c = m
    · subst ec
      rw [ty_hk_is N]
      exact ⟨i, hi, pk_us, fun j hj => by rw [keep _ (hl j hj)]; exact hl j hj⟩
    · obtain ⟨q, q1, q2, q3⟩ := hr c c1 (by omega)
      have ek : ty_hk b1 b2 b3 c = ty_hk a1 a2 a3 c := ty_hk_is (E c (by omega))
      rw [ek]
      refine ⟨q, q1, ?_, fun j hj => by rw [keep _ (q3 j hj)]; exact q3 j hj⟩
      rw [keep _ (by rw [q2]; exact ty_m1 (by omega)), q2]
  · intro c c' c1 c2 d1 d2 his
    by_cases ec : c = m
    · by_cases ec' : c' = m
      · omega
      · subst ec
        obtain ⟨e1, e2, e3, e4, e5, e6⟩ := E c' (by omega)
        obtain ⟨n1, n2, n3, n4, n5, n6⟩ := N
        obtain ⟨s1, s2, s3, s4, s5, s6⟩ := his
        exact absurd ⟨by rw [← e1, ← s1, n1], by rw [← e2, ← s2, n2], by rw [← e3, ← s3, n3], by rw [← e4, ← s4, n4], by rw [← e5, ← s5, n5], by rw [← e6, ← s6, n6]⟩ (hn c' d1 (by omega))
    · by_cases ec' : c' = m
      · subst ec'
        obtain ⟨e1, e2, e3, e4, e5, e6⟩ := E c (by omega)
        obtain ⟨n1, n2, n3, n4, n5, n6⟩ := N
        obtain ⟨s1, s2, s3, s4, s5, s6⟩ := his
        exact absurd ⟨by rw [← e1, s1, n1], by rw [← e2, s2, n2], by rw [← e3, s3, n3], by rw [← e4, s4, n4], by rw [← e5, s5, n5], by rw [← e6, s6, n6]⟩ (hn c c1 (by omega))
      · obtain ⟨e1, e2, e3, e4, e5, e6⟩ := E c (by omega)
        obtain ⟨f1, f2, f3, f4, f5, f6⟩ := E c' (by omega)
        obtain ⟨s1, s2, s3, s4, s5, s6⟩ := his
        exact hu c c' c1 (by omega) d1 (by omega) ⟨by rw [← e1, s1, f1], by rw [← e2, s2, f2], by rw [← e3, s3, f3], by rw [← e4, s4, f4], by rw [← e5, s5, f5], by rw [← e6, s6, f6]⟩
/-- the arrays when content m is written -/
theorem ty_put_old {m : Nat} {a1 a2 a3 : Nat → Int32} {k x a b d e : Int32} {c : Nat} (hc : c < m) :
    ty_is (upd a1 m k) (upd a2 m x) (upd (upd (upd (upd a3 (4 * m) a) (4 * m + 1) b) (4 * m + 2) d) (4 * m + 3) e) c (a1 c) (a2 c) (a3 (4 * c)) (a3 (4 * c + 1)) (a3 (4 * c + 2)) (a3 (4 * c + 3)) := by
  have g : ∀ j, j < 4 * m → upd (upd (upd (upd a3 (4 * m) a) (4 * m + 1) b) (4 * m + 2) d) (4 * m + 3) e j = a3 j := by
    intro j hj
    rw [pk_un (by omega), pk_un (by omega), pk_un (by omega), pk_un (by omega)]
  exact ⟨pk_un (by omega), pk_un (by omega), g _ (by omega), g _ (by omega), g _ (by omega), g _ (by omega)⟩
theorem ty_put_new {m : Nat} {a1 a2 a3 : Nat → Int32} {k x a b d e : Int32} :
    ty_is (upd a1 m k) (upd a2 m x) (upd (upd (upd (upd a3 (4 * m) a) (4 * m + 1) b) (4 * m + 2) d) (4 * m + 3) e) m k x a b d e := by
  refine ⟨pk_us, pk_us, ?_, ?_, ?_, pk_us⟩
  · rw [pk_un (by omega), pk_un (by omega), pk_un (by omega), pk_us]
  · rw [pk_un (by omega), pk_un (by omega), pk_us]
  · rw [pk_un (by omega), pk_us]
theorem ty_put_rng {m M : Nat} {a3 : Nat → Int32} {a : Int32} (h : ∀ j, ∃ c, c < M ∧ a3 j = nI c) (ha : ∃ c, c < M ∧ a = nI c) : ∀ j, ∃ c, c < M ∧ upd a3 m a j = nI c := by
  intro j
  by_cases e : j = m
  · rw [e, pk_us]
    exact ha
  · rw [pk_un e]
    exact h j
/-- the first store: nothing but the nothing -/
theorem ty_H_0 {a4 : Nat → Int32} (h : ∀ j, j < 2048 → a4 j = -1) : ty_H 1 (fun _ => 0) (fun _ => 0) (fun _ => 0) a4 := by
  refine ⟨⟨by omega, by omega⟩, fun j => ⟨0, by omega, rfl⟩, fun j hj => Or.inl (h j hj), ?_, fun c c1 c2 => absurd c2 (by omega), fun c c' c1 c2 => absurd c2 (by omega)⟩
  rw [ty_cnt_none 2048 h]
  omega
end
section
section
variable {fm fp fl fa fc fw fs fd : Int32} {a1 a2 a3 a4 a5 a6 a7 a8 a9 a10 a11 a12 a13 : Nat → Int32}
theorem ty_hash {post : Int32 → Prop} {k x a b d e : Int32} (h : post (nI (ty_hs k x a b d e))) : wpX_hash post (fm, fp, fl, fa, fc, fw, fs, fd, a1, a2, a3, a4, a5, a6, a7, a8, a9, a10, a11, a12, a13) k x a b d e := by
  refine nm_e (nm_e (nm_e (nm_e (nm_e ?_))))
  have e1 : ty_hJ (ty_hI k x a b d e) &&& 2047 = nI (ty_hs k x a b d e) := pk_and _ 11 (by decide)
  have e2 : post (ty_hJ (ty_hI k x a b d e) &&& 2047) := by
    rw [e1]
    exact h
  exact e2
theorem ty_isThat {post : Int32 → Prop} {c : Nat} {k x a : Int32} (hc : c < 1024) (h1 : a1 c = k ∧ a2 c = x ∧ a3 (4 * c) = a → post 1) (h0 : ¬ (a1 c = k ∧ a2 c = x ∧ a3 (4 * c) = a) → post 0) : wpX_isThat post (fm, fp, fl, fa, fc, fw, fs, fd, a1, a2, a3, a4, a5, a6, a7, a8, a9, a10, a11, a12, a13) (nI c) k x a := by
  have e4 : (4 : Int32) * nI c = nI (4 * c) := pk_mul 4 c
  have g : vp_in (nI c) 1024 ∧ ((((a1 c) = k → (vp_in (nI c) 1024 ∧ ((((a2 c) = x → (vp_in (nI (4 * c)) 4096 ∧ ((((a3 (4 * c)) = a → (post 1)) ∧ (¬ (a3 (4 * c)) = a → (post 0)))))) ∧ (¬ (a2 c) = x → (post 0)))))) ∧ (¬ (a1 c) = k → (post 0)))) :=
    ⟨pk_in c 1024 hc, br_c (fun z1 => ⟨pk_in c 1024 hc, br_c (fun z2 => ⟨pk_in (4 * c) 4096 (by omega), br_c (fun z3 => h1 ⟨z1, z2, z3⟩) (fun z3 => h0 (fun q => z3 q.2.2))⟩) (fun z2 => h0 (fun q => z2 q.2.1))⟩) (fun z1 => h0 (fun q => z1 q.1))⟩
  unfold wpX_isThat
  dsimp only
  rw [e4, nI_clamp (show c < 2 ^ 31 by omega), nI_clamp (show 4 * c < 2 ^ 31 by omega)]
  exact g
/-- one turn of the search: the place holds content c -/
theorem ty_c18 {post : Int32 → St2 → Prop} {k x a b d e : Int32} {n s i c : Nat} (hs : s < 2048) (hi : i < 2048) (hc : c < 1000) (ht : a4 s = nI c)
    (hy : ty_is a1 a2 a3 c k x a b d e → post (nI c) (fm, fp, fl, fa, fc, fw, fs, fd, a1, a2, a3, a4, a5, a6, a7, a8, a9, a10, a11, a12, a13))
    (hn : ¬ ty_is a1 a2 a3 c k x a b d e → wX_content_18 post k x a b d e fm fp fl fa fc fw fs fd a1 a2 a3 a4 a5 a6 a7 a8 a9 a10 a11 a12 a13 n (nI ((s + 1) % 2048)) (nI (i + 1))) :
    wX_content_18 post k x a b d e fm fp fl fa fc fw fs fd a1 a2 a3 a4 a5 a6 a7 a8 a9 a10 a11 a12 a13 (n + 1) (nI s) (nI i) := by
  have e1 : (4 : Int32) * nI c + 1 = nI (4 * c + 1) := by rw [show (4 : Int32) * nI c = nI (4 * c) from pk_mul 4 c]; exact nI_add _ 1
  have e2 : (4 : Int32) * nI c + 2 = nI (4 * c + 2) := by rw [show (4 : Int32) * nI c = nI (4 * c) from pk_mul 4 c]; exact nI_add _ 2
  have e3 : (4 : Int32) * nI c + 3 = nI (4 * c + 3) := by rw [show (4 : Int32) * nI c = nI (4 * c) from pk_mul 4 c]; exact nI_add _ 3
  have go : ¬ ty_is a1 a2 a3 c k x a b d e → wX_content_109 post (wX_content_18 post k x a b d e fm fp fl fa fc fw fs fd a1 a2 a3 a4 a5 a6 a7 a8 a9 a10 a11 a12 a13 n) k x a b d e (nI s) (nI i) fm fp fl fa fc fw fs fd a1 a2 a3 a4 a5 a6 a7 a8 a9 a10 a11 a12 a13 := by
    intro z
    have es : (nI s + 1) &&& 2047 = nI ((s + 1) % 2048) := by rw [nI_1]; exact pk_andN (by omega) 11 (by decide)
    exact nm_r es (nm_r (nI_1 i) (hn z))
  refine pk_le 2048 i (fun z => absurd z (by omega)) (fun _ => ⟨pk_in s 2048 hs, br_f ?_ ⟨pk_in s 2048 hs, nm_r (e' := nI c) ?_ ?_⟩⟩)
  · rw [nI_clamp (show s < 2 ^ 31 by omega), ht]
    exact ty_m1 (by omega)
  · rw [nI_clamp (show s < 2 ^ 31 by omega), ht]
  · refine ty_isThat (by omega) (fun z => ?_) (fun z => br_t rfl (go (fun q => z ⟨q.1, q.2.1, q.2.2.1⟩)))
    refine br_f (by decide) ?_
    rw [e1, e2, e3, nI_clamp (show 4 * c + 1 < 2 ^ 31 by omega), nI_clamp (show 4 * c + 2 < 2 ^ 31 by omega), nI_clamp (show 4 * c + 3 < 2 ^ 31 by omega)]
    refine ⟨vp_in_nI (N := 4096) (by omega) (by omega), br_c (fun z4 => ⟨vp_in_nI (N := 4096) (by omega) (by omega), br_c (fun z5 => ⟨vp_in_nI (N := 4096) (by omega) (by omega), br_c (fun z6 => hy ⟨z.1, z.2.1, z.2.2, z4, z5, z6⟩) (fun y => go (fun q => y q.2.2.2.2.2))⟩) (fun y => go (fun q => y q.2.2.2.2.1))⟩) (fun y => go (fun q => y q.2.2.2.1))⟩
theorem ty_content_f {post : Int32 → St2 → Prop} {k x a b d e : Int32} {m c : Nat} (h : ty_H m a1 a2 a3 a4) (hc1 : 1 ≤ c) (hc : c < m) (hk : ty_is a1 a2 a3 c k x a b d e)
    (hp : post (nI c) (fm, fp, fl, fa, fc, fw, fs, fd, a1, a2, a3, a4, a5, a6, a7, a8, a9, a10, a11, a12, a13)) : wpX_content post (fm, fp, fl, fa, fc, fw, fs, fd, a1, a2, a3, a4, a5, a6, a7, a8, a9, a10, a11, a12, a13) k x a b d e := by
  unfold wpX_content
  dsimp only
  refine ty_hash ?_
  obtain ⟨⟨hm1, hm2⟩, h3, h4, hcnt, hr, hu⟩ := h
  obtain ⟨q, q1, q2, q3⟩ := hr c hc1 hc
  rw [ty_hk_is hk] at q2 q3
  have hs : ty_hs k x a b d e < 2048 := Nat.mod_lt _ (by decide)
  have key : ∃ n, wX_content_18 post k x a b d e fm fp fl fa fc fw fs fd a1 a2 a3 a4 a5 a6 a7 a8 a9 a10 a11 a12 a13 n (nI ((ty_hs k x a b d e + 0) % 2048)) (nI 0) := by
    refine pk_loop (σ := Unit) (fun n i _ => wX_content_18 post k x a b d e fm fp fl fa fc fw fs fd a1 a2 a3 a4 a5 a6 a7 a8 a9 a10 a11 a12 a13 n (nI ((ty_hs k x a b d e + i) % 2048)) (nI i)) (fun _ _ => True) q 0 () (by omega) trivial ?_ ?_
    · intro n _ _
      exact ty_c18 (by omega) q1 (by omega) q2 (fun _ => hp) (fun z => absurd hk z)
    · intro n i _ hi _ hw
      rcases h4 ((ty_hs k x a b d e + i) % 2048) (by omega) with z | ⟨c', d1, d2, d3⟩
      · exact absurd z (q3 i hi)
      · refine ty_c18 (by omega) (by omega) (by omega) d3 (fun y => ?_) (fun _ => ?_)
        · obtain ⟨s1, s2, s3, s4, s5, s6⟩ := hk
          rw [hu c' c d1 d2 hc1 hc (by rw [s1, s2, s3, s4, s5, s6]; exact y)]
          exact hp
        · rw [show ((ty_hs k x a b d e + i) % 2048 + 1) % 2048 = (ty_hs k x a b d e + (i + 1)) % 2048 by omega]
          exact hw () trivial
  rw [show (ty_hs k x a b d e + 0) % 2048 = ty_hs k x a b d e by omega] at key
  exact key
theorem ty_content_n {post : Int32 → St2 → Prop} {k x a b d e : Int32} {m : Nat} (h : ty_H m a1 a2 a3 a4) (hm : m < 1000) (hmm : fm = nI m)
    (ha : ∃ c, c < m ∧ a = nI c) (hb : ∃ c, c < m ∧ b = nI c) (hd : ∃ c, c < m ∧ d = nI c) (he : ∃ c, c < m ∧ e = nI c)
    (hn : ∀ c, 1 ≤ c → c < m → ¬ ty_is a1 a2 a3 c k x a b d e)
    (hp : ∀ b1 b2 b3 b4 : Nat → Int32, ty_H (m + 1) b1 b2 b3 b4 → (∀ c, c < m → ty_is b1 b2 b3 c (a1 c) (a2 c) (a3 (4 * c)) (a3 (4 * c + 1)) (a3 (4 * c + 2)) (a3 (4 * c + 3))) → ty_is b1 b2 b3 m k x a b d e →
      post (nI m) (nI (m + 1), fp, fl, fa, fc, fw, fs, fd, b1, b2, b3, b4, a5, a6, a7, a8, a9, a10, a11, a12, a13)) : wpX_content post (fm, fp, fl, fa, fc, fw, fs, fd, a1, a2, a3, a4, a5, a6, a7, a8, a9, a10, a11, a12, a13) k x a b d e := by
  subst hmm
  unfold wpX_content
  dsimp only
  refine ty_hash ?_
  have hH := h
  obtain ⟨⟨hm1, hm2⟩, h3, h4, hcnt, hr, hu⟩ := h
  obtain ⟨q, q1, q2, q3⟩ := ty_free hcnt hm2 (ty_hs k x a b d e)
  have hs : ty_hs k x a b d e < 2048 := Nat.mod_lt _ (by decide)
  have up : ∀ {y : Int32}, (∃ c, c < m ∧ y = nI c) → ∃ c, c < m + 1 ∧ y = nI c := fun ⟨c, c1, c2⟩ => ⟨c, by omega, c2⟩
  have e0 : (4 : Int32) * nI m = nI (4 * m) := pk_mul 4 m
  have e1 : nI (4 * m) + 1 = nI (4 * m + 1) := nI_add _ 1
  have e2 : nI (4 * m) + 2 = nI (4 * m + 2) := nI_add _ 2
  have e3 : nI (4 * m) + 3 = nI (4 * m + 3) := nI_add _ 3
  have fin : wX_content_125 post k x a b d e (nI ((ty_hs k x a b d e + q) % 2048)) (nI m) fp fl fa fc fw fs fd a1 a2 a3 a4 a5 a6 a7 a8 a9 a10 a11 a12 a13 := by
    unfold wX_content_125
    rw [e0, e1, e2, e3, nI_clamp (show m < 2 ^ 31 by omega), nI_clamp (show 4 * m < 2 ^ 31 by omega), nI_clamp (show 4 * m + 1 < 2 ^ 31 by omega), nI_clamp (show 4 * m + 2 < 2 ^ 31 by omega), nI_clamp (show 4 * m + 3 < 2 ^ 31 by omega), nI_clamp (show (ty_hs k x a b d e + q) % 2048 < 2 ^ 31 by omega)]
    refine ⟨pk_in m 1024 (by omega), nm_e ⟨pk_in m 1024 (by omega), nm_e ⟨vp_in_nI (N := 4096) (by omega) (by omega), nm_e ⟨vp_in_nI (N := 4096) (by omega) (by omega), nm_e ⟨vp_in_nI (N := 4096) (by omega) (by omega), nm_e ⟨vp_in_nI (N := 4096) (by omega) (by omega), nm_e ⟨vp_in_nI (N := 2048) (by omega) (by omega), nm_e (nm_r (nI_1 m) ?_)⟩⟩⟩⟩⟩⟩⟩
    exact hp _ _ _ _ (ty_H_new hH hm hn q1 q2 q3 (fun c hc => ty_put_old hc) ty_put_new (ty_put_rng (ty_put_rng (ty_put_rng (ty_put_rng (fun j => up (h3 j)) (up ha)) (up hb)) (up hd)) (up he))) (fun c hc => ty_put_old hc) ty_put_new
  have key : ∃ n, wX_content_18 post k x a b d e (nI m) fp fl fa fc fw fs fd a1 a2 a3 a4 a5 a6 a7 a8 a9 a10 a11 a12 a13 n (nI ((ty_hs k x a b d e + 0) % 2048)) (nI 0) := by
    refine pk_loop (σ := Unit) (fun n i _ => wX_content_18 post k x a b d e (nI m) fp fl fa fc fw fs fd a1 a2 a3 a4 a5 a6 a7 a8 a9 a10 a11 a12 a13 n (nI ((ty_hs k x a b d e + i) % 2048)) (nI i)) (fun _ _ => True) q 0 () (by omega) trivial ?_ ?_
    · intro n _ _
      refine pk_le 2048 q (fun z => absurd z (by omega)) (fun _ => ⟨vp_in_nI (N := 2048) (by omega) (by omega), br_t ?_ fin⟩)
      rw [nI_clamp (show (ty_hs k x a b d e + q) % 2048 < 2 ^ 31 by omega)]
      exact q2
    · intro n i _ hi _ hw
      rcases h4 ((ty_hs k x a b d e + i) % 2048) (by omega) with z | ⟨c', d1, d2, d3⟩
      · exact absurd z (q3 i hi)
      · refine ty_c18 (by omega) (by omega) (by omega) d3 (fun y => absurd y (hn c' d1 d2)) (fun _ => ?_)
        rw [show ((ty_hs k x a b d e + i) % 2048 + 1) % 2048 = (ty_hs k x a b d e + (i + 1)) % 2048 by omega]
        exact hw () trivial
  rw [show (ty_hs k x a b d e + 0) % 2048 = ty_hs k x a b d e by omega] at key
  exact key
end
end
section
section
variable {fm fp fl fa fc fw fs fd : Int32} {a1 a2 a3 a4 a5 a6 a7 a8 a9 a10 a11 a12 a13 : Nat → Int32}
def ty_par (q : Nat) : Int32 := if q < 4 then -1 else if q < 20 then nI ((q - 4) / 4) else nI (4 + (q - 20) / 4)
def ty_lev (q : Nat) : Nat := if q < 4 then 1 else if q < 20 then 2 else 3
theorem ty_parentOf {post : Int32 → Prop} {q : Nat} (hq : q < 84) (h : post (ty_par q)) : wpX_parentOf post (fm, fp, fl, fa, fc, fw, fs, fd, a1, a2, a3, a4, a5, a6, a7, a8, a9, a10, a11, a12, a13) (nI q) := by
  unfold ty_par at h
  refine pk_le 4 q (fun z => pk_le 20 q (fun y => ⟨by decide, ?_⟩) (fun y => ⟨by decide, ?_⟩)) (fun z => ?_)
  · rw [if_neg (by omega), if_neg (by omega)] at h
    have e : (4 : Int32) + (nI q - 20) / 4 = nI (4 + (q - 20) / 4) := by
      rw [show nI q - 20 = nI (q - 20) from pk_sub (b := 20) y, show nI (q - 20) / 4 = nI ((q - 20) / 4) from pk_div (d := 4) (by omega) (by omega) (by omega)]
      exact nI_add 4 _
    rw [e]
    exact h
  · rw [if_neg (by omega), if_pos (by omega)] at h
    have e : (nI q - 4) / 4 = nI ((q - 4) / 4) := by
      rw [show nI q - 4 = nI (q - 4) from pk_sub (b := 4) z]
      exact pk_div (d := 4) (by omega) (by omega) (by omega)
    rw [e]
    exact h
  · rw [if_pos (by omega)] at h
    exact h
theorem ty_levelOf {post : Int32 → Prop} {q : Nat} (hq : q < 84) (h : post (nI (ty_lev q))) : wpX_levelOf post (fm, fp, fl, fa, fc, fw, fs, fd, a1, a2, a3, a4, a5, a6, a7, a8, a9, a10, a11, a12, a13) (nI q) := by
  unfold ty_lev at h
  refine pk_le 4 q (fun z => pk_le 20 q (fun y => ?_) (fun y => ?_)) (fun z => ?_)
  · rw [if_neg (by omega), if_neg (by omega)] at h
    exact h
  · rw [if_neg (by omega), if_pos (by omega)] at h
    exact h
  · rw [if_pos (by omega)] at h
    exact h
theorem ty_nameOf {post : Int32 → Prop} {q : Nat} (hq : q < 84) (h : post (nI (q % 4))) : wpX_nameOf post (fm, fp, fl, fa, fc, fw, fs, fd, a1, a2, a3, a4, a5, a6, a7, a8, a9, a10, a11, a12, a13) (nI q) := by
  have e : nI q &&& 3 = nI (q % 4) := pk_andN (by omega) 2 (by decide)
  have g : post (nI q &&& 3) := by
    rw [e]
    exact h
  exact g
def ty_w4 (r c d e : Nat) : Nat → Nat
  | 0 => r
  | 1 => c
  | 2 => d
  | _ => e
theorem ty_f63 {post : St2 → Prop} {D : Nat} {w nm : Nat → Nat} (hD : D ≤ 3) (h12 : a12 0 = nI (w 0)) (hw : ∀ k, k < D → w k < 1000 ∧ nm k < 4 ∧ a13 k = nI (nm k) ∧ a3 (4 * w k + nm k) = nI (w (k + 1)))
    (hp : ∀ b12 : Nat → Int32, (∀ k, k ≤ D → b12 k = nI (w k)) → post (fm, fp, fl, fa, fc, fw, fs, nI D, a1, a2, a3, a4, a5, a6, a7, a8, a9, a10, a11, b12, a13)) : ∃ n, wX_findWay_63 post fm fp fl fa fc fw fs (nI D) n 0 a1 a2 a3 a4 a5 a6 a7 a8 a9 a10 a11 a12 a13 := by
  refine pk_loop (fun n i s => wX_findWay_63 post fm fp fl fa fc fw fs (nI D) n (nI i) a1 a2 a3 a4 a5 a6 a7 a8 a9 a10 a11 s a13) (fun i s => ∀ k, k ≤ i → s k = nI (w k)) D 0 a12 (by omega) (fun k hk => by rw [show k = 0 by omega]; exact h12) (fun n s h => pk_le D D (fun _ => hp s h) (fun z => absurd z (by omega))) ?_
  intro n i s hi h hgo
  obtain ⟨w1, w2, w3, w4⟩ := hw i hi
  have ea : (4 : Int32) * s i + a13 i = nI (4 * w i + nm i) := by
    rw [h i (by omega), w3, show (4 : Int32) * nI (w i) = nI (4 * w i) from pk_mul 4 _]
    exact nI_add _ _
  refine pk_le D i (fun z => absurd z (by omega)) (fun _ => ?_)
  rw [nI_clamp (show i < 2 ^ 31 by omega), ea, nI_clamp (show 4 * w i + nm i < 2 ^ 31 by omega), nI_1, nI_clamp (show i + 1 < 2 ^ 31 by omega), w4]
  refine ⟨pk_in i 4 (by omega), pk_in i 3 (by omega), vp_in_nI (N := 4096) (by omega) (by omega), pk_in (i + 1) 4 (by omega), nm_e (nm_e (hgo _ ?_))⟩
  intro k hk
  by_cases e : k = i + 1
  · rw [e, pk_us]
  · rw [pk_un e]
    exact h k (by omega)
theorem ty_f19s {post : St2 → Prop} {t : Int32} {n q k : Nat} (hq : q < 84) (hk : k < 3) (h : wX_findWay_19 post t fm fp fl fa fc fw fs fd n (ty_par q) (nI k + (-1)) a1 a2 a3 a4 a5 a6 a7 a8 a9 a10 a11 a12 (upd a13 k (nI (q % 4)))) : wX_findWay_19 post t fm fp fl fa fc fw fs fd (n + 1) (nI q) (nI k) a1 a2 a3 a4 a5 a6 a7 a8 a9 a10 a11 a12 a13 := by
  refine br_f (nI_pos (by omega)) (ty_nameOf hq ⟨pk_in k 3 hk, nm_r (e' := upd a13 k (nI (q % 4))) ?_ (ty_parentOf hq (nm_e h))⟩)
  rw [nI_clamp (by omega)]
theorem ty_f19e {post : St2 → Prop} {t n : Nat} {x3 x4 : Int32} (ht : t < 9) (hx : x4 < 0) (h : ∃ n, wX_findWay_63 post fm fp fl fa fc fw fs fd n 0 a1 a2 a3 a4 a5 a6 a7 a8 a9 a10 a11 (upd a12 0 (a6 t)) a13) : wX_findWay_19 post (nI t) fm fp fl fa fc fw fs fd (n + 1) x3 x4 a1 a2 a3 a4 a5 a6 a7 a8 a9 a10 a11 a12 a13 := by
  refine br_t hx ⟨pk_in t 9 ht, nm_r (e' := upd a12 0 (a6 t)) ?_ h⟩
  rw [nI_clamp (by omega)]
theorem ty_way1 {post : St2 → Prop} {t p r c : Nat} (ht : t < 9) (hp : p < 4) (hr : a6 t = nI r) (hr' : r < 1000) (hc : a3 (4 * r + p) = nI c)
    (H : ∀ b12 b13 : Nat → Int32, b12 0 = nI r → b12 1 = nI c → b13 0 = nI p → post (fm, fp, fl, fa, fc, fw, fs, nI 1, a1, a2, a3, a4, a5, a6, a7, a8, a9, a10, a11, b12, b13)) : wpX_findWay post (fm, fp, fl, fa, fc, fw, fs, fd, a1, a2, a3, a4, a5, a6, a7, a8, a9, a10, a11, a12, a13) (nI t) (nI p) := by
  unfold wpX_findWay
  refine ty_levelOf (by omega) ?_
  rw [show ty_lev p = 1 from if_pos hp]
  refine nm_r (e' := nI 0) rfl ⟨2, ty_f19s (by omega) (by omega) (ty_f19e ht (by decide) (ty_f63 (w := ty_w4 r c 0 0) (nm := fun _ => p) (by omega) ?_ ?_ ?_))⟩
  · rw [pk_us]
    exact hr
  · intro k hk
    rw [show k = 0 by omega]
    refine ⟨hr', hp, ?_, hc⟩
    rw [pk_us, Nat.mod_eq_of_lt hp]
  · intro b12 hb
    refine H b12 _ (hb 0 (by omega)) (hb 1 (by omega)) ?_
    rw [pk_us, Nat.mod_eq_of_lt hp]
theorem ty_way2 {post : St2 → Prop} {t p q n r c d : Nat} (ht : t < 9) (hq : q < 4) (hn : n < 4) (hp : p = 4 + 4 * q + n) (hr : a6 t = nI r) (hr' : r < 1000) (hc : a3 (4 * r + q) = nI c) (hc' : c < 1000) (hd : a3 (4 * c + n) = nI d)
    (H : ∀ b12 b13 : Nat → Int32, b12 2 = nI d → post (fm, fp, fl, fa, fc, fw, fs, nI 2, a1, a2, a3, a4, a5, a6, a7, a8, a9, a10, a11, b12, b13)) : wpX_findWay post (fm, fp, fl, fa, fc, fw, fs, fd, a1, a2, a3, a4, a5, a6, a7, a8, a9, a10, a11, a12, a13) (nI t) (nI p) := by
  unfold wpX_findWay
  refine ty_levelOf (by omega) ?_
  rw [show ty_lev p = 2 from by unfold ty_lev; rw [if_neg (by omega), if_pos (by omega)]]
  refine nm_r (e' := nI 1) rfl ⟨3, ty_f19s (by omega) (by omega) ?_⟩
  rw [show ty_par p = nI q from by unfold ty_par; rw [if_neg (by omega), if_pos (by omega), show (p - 4) / 4 = q by omega], show nI 1 + (-1) = nI 0 from rfl]
  refine ty_f19s (by omega) (by omega) (ty_f19e ht (by decide) (ty_f63 (w := ty_w4 r c d 0) (nm := ty_w4 q n 0 0) (by omega) ?_ ?_ ?_))
  · rw [pk_us]
    exact hr
  · intro k hk
    rcases (show k = 0 ∨ k = 1 by omega) with rfl | rfl
    · refine ⟨hr', hq, ?_, hc⟩
      rw [pk_us, Nat.mod_eq_of_lt hq]
      rfl
    · refine ⟨hc', hn, ?_, hd⟩
      rw [pk_un (by omega), pk_us, show p % 4 = n by omega]
      rfl
  · intro b12 hb
    exact H b12 _ (hb 2 (by omega))
theorem ty_way3 {post : St2 → Prop} {t p q s n r c d e : Nat} (ht : t < 9) (hq : q < 4) (hs : s < 4) (hn : n < 4) (hp : p = 20 + 16 * q + 4 * s + n) (hr : a6 t = nI r) (hr' : r < 1000) (hc : a3 (4 * r + q) = nI c) (hc' : c < 1000) (hd : a3 (4 * c + s) = nI d) (hd' : d < 1000) (he : a3 (4 * d + n) = nI e)
    (H : ∀ b12 b13 : Nat → Int32, b12 3 = nI e → post (fm, fp, fl, fa, fc, fw, fs, nI 3, a1, a2, a3, a4, a5, a6, a7, a8, a9, a10, a11, b12, b13)) : wpX_findWay post (fm, fp, fl, fa, fc, fw, fs, fd, a1, a2, a3, a4, a5, a6, a7, a8, a9, a10, a11, a12, a13) (nI t) (nI p) := by
  unfold wpX_findWay
  refine ty_levelOf (by omega) ?_
  rw [show ty_lev p = 3 from by unfold ty_lev; rw [if_neg (by omega), if_neg (by omega)]]
  refine nm_r (e' := nI 2) rfl ⟨4, ty_f19s (by omega) (by omega) ?_⟩
  rw [show ty_par p = nI (4 + 4 * q + s) from by unfold ty_par; rw [if_neg (by omega), if_neg (by omega), show 4 + (p - 20) / 4 = 4 + 4 * q + s by omega], show nI 2 + (-1) = nI 1 from rfl]
  refine ty_f19s (by omega) (by omega) ?_
  rw [show ty_par (4 + 4 * q + s) = nI q from by unfold ty_par; rw [if_neg (by omega), if_pos (by omega), show (4 + 4 * q + s - 4) / 4 = q by omega], show nI 1 + (-1) = nI 0 from rfl]
  refine ty_f19s (by omega) (by omega) (ty_f19e ht (by decide) (ty_f63 (w := ty_w4 r c d e) (nm := ty_w4 q s n 0) (by omega) ?_ ?_ ?_))
  · rw [pk_us]
    exact hr
  · intro k hk
    rcases (show k = 0 ∨ k = 1 ∨ k = 2 by omega) with rfl | rfl | rfl
    · refine ⟨hr', hq, ?_, hc⟩
      rw [pk_us, Nat.mod_eq_of_lt hq]
      rfl
    · refine ⟨hc', hs, ?_, hd⟩
      rw [pk_un (by omega), pk_us, show (4 + 4 * q + s) % 4 = s by omega]
      rfl
    · refine ⟨hd', hn, ?_, he⟩
      rw [pk_un (by omega), pk_un (by omega), pk_us, show p % 4 = n by omega]
      rfl
  · intro b12 hb
    exact H b12 _ (hb 3 (by omega))
theorem ty_at1 {post : Int32 → St2 → Prop} {t p r c : Nat} (ht : t < 9) (hp : p < 4) (hr : a6 t = nI r) (hr' : r < 1000) (hc : a3 (4 * r + p) = nI c)
    (H : ∀ (gd : Int32) (b12 b13 : Nat → Int32), post (nI c) (fm, fp, fl, fa, fc, fw, fs, gd, a1, a2, a3, a4, a5, a6, a7, a8, a9, a10, a11, b12, b13)) : wpX_contentAt post (fm, fp, fl, fa, fc, fw, fs, fd, a1, a2, a3, a4, a5, a6, a7, a8, a9, a10, a11, a12, a13) (nI t) (nI p) := by
  unfold wpX_contentAt
  refine ty_way1 ht hp hr hr' hc (fun b12 b13 h0 h1 _ => ⟨pk_in 1 4 (by omega), ?_⟩)
  rw [nI_clamp (show 1 < 2 ^ 31 by omega), h1]
  exact H _ _ _
theorem ty_at2 {post : Int32 → St2 → Prop} {t p q n r c d : Nat} (ht : t < 9) (hq : q < 4) (hn : n < 4) (hp : p = 4 + 4 * q + n) (hr : a6 t = nI r) (hr' : r < 1000) (hc : a3 (4 * r + q) = nI c) (hc' : c < 1000) (hd : a3 (4 * c + n) = nI d)
    (H : ∀ (gd : Int32) (b12 b13 : Nat → Int32), post (nI d) (fm, fp, fl, fa, fc, fw, fs, gd, a1, a2, a3, a4, a5, a6, a7, a8, a9, a10, a11, b12, b13)) : wpX_contentAt post (fm, fp, fl, fa, fc, fw, fs, fd, a1, a2, a3, a4, a5, a6, a7, a8, a9, a10, a11, a12, a13) (nI t) (nI p) := by
  unfold wpX_contentAt
  refine ty_way2 ht hq hn hp hr hr' hc hc' hd (fun b12 b13 h1 => ⟨pk_in 2 4 (by omega), ?_⟩)
  rw [nI_clamp (show 2 < 2 ^ 31 by omega), h1]
  exact H _ _ _
theorem ty_at3 {post : Int32 → St2 → Prop} {t p q s n r c d e : Nat} (ht : t < 9) (hq : q < 4) (hs : s < 4) (hn : n < 4) (hp : p = 20 + 16 * q + 4 * s + n) (hr : a6 t = nI r) (hr' : r < 1000) (hc : a3 (4 * r + q) = nI c) (hc' : c < 1000) (hd : a3 (4 * c + s) = nI d) (hd' : d < 1000) (he : a3 (4 * d + n) = nI e)
    (H : ∀ (gd : Int32) (b12 b13 : Nat → Int32), post (nI e) (fm, fp, fl, fa, fc, fw, fs, gd, a1, a2, a3, a4, a5, a6, a7, a8, a9, a10, a11, b12, b13)) : wpX_contentAt post (fm, fp, fl, fa, fc, fw, fs, fd, a1, a2, a3, a4, a5, a6, a7, a8, a9, a10, a11, a12, a13) (nI t) (nI p) := by
  unfold wpX_contentAt
  refine ty_way3 ht hq hs hn hp hr hr' hc hc' hd hd' he (fun b12 b13 h1 => ⟨pk_in 3 4 (by omega), ?_⟩)
  rw [nI_clamp (show 3 < 2 ^ 31 by omega), h1]
  exact H _ _ _
theorem ty_g63 {post : St2 → Prop} {D : Nat} {w nm : Nat → Nat} (hD : D ≤ 3) (h12 : a12 0 = nI (w 0)) (hw : ∀ k, k < D → w k < 1000 ∧ nm k < 4 ∧ a13 k = nI (nm k) ∧ a3 (4 * w k + nm k) = nI (w (k + 1)))
    (hp : ∀ b12 : Nat → Int32, (∀ k, k ≤ D → b12 k = nI (w k)) → post (fm, fp, fl, fa, fc, fw, fs, nI D, a1, a2, a3, a4, a5, a6, a7, a8, a9, a10, a11, b12, a13)) : ∃ n, wX_findWay_2_63 post fm fp fl fa fc fw fs (nI D) n 0 a1 a2 a3 a4 a5 a6 a7 a8 a9 a10 a11 a12 a13 := by
  refine pk_loop (fun n i s => wX_findWay_2_63 post fm fp fl fa fc fw fs (nI D) n (nI i) a1 a2 a3 a4 a5 a6 a7 a8 a9 a10 a11 s a13) (fun i s => ∀ k, k ≤ i → s k = nI (w k)) D 0 a12 (by omega) (fun k hk => by rw [show k = 0 by omega]; exact h12) (fun n s h => pk_le D D (fun _ => hp s h) (fun z => absurd z (by omega))) ?_
  intro n i s hi h hgo
  obtain ⟨w1, w2, w3, w4⟩ := hw i hi
  have ea : (4 : Int32) * s i + a13 i = nI (4 * w i + nm i) := by
    rw [h i (by omega), w3, show (4 : Int32) * nI (w i) = nI (4 * w i) from pk_mul 4 _]
    exact nI_add _ _
  refine pk_le D i (fun z => absurd z (by omega)) (fun _ => ?_)
  rw [nI_clamp (show i < 2 ^ 31 by omega), ea, nI_clamp (show 4 * w i + nm i < 2 ^ 31 by omega), nI_1, nI_clamp (show i + 1 < 2 ^ 31 by omega), w4]
  refine ⟨pk_in i 4 (by omega), pk_in i 3 (by omega), vp_in_nI (N := 4096) (by omega) (by omega), pk_in (i + 1) 4 (by omega), nm_e (nm_e (hgo _ ?_))⟩
  intro k hk
  by_cases e : k = i + 1
  · rw [e, pk_us]
  · rw [pk_un e]
    exact h k (by omega)
theorem ty_g19s {post : St2 → Prop} {t : Int32} {n q k : Nat} (hq : q < 84) (hk : k < 3) (h : wX_findWay_2_19 post t fm fp fl fa fc fw fs fd n (ty_par q) (nI k + (-1)) a1 a2 a3 a4 a5 a6 a7 a8 a9 a10 a11 a12 (upd a13 k (nI (q % 4)))) : wX_findWay_2_19 post t fm fp fl fa fc fw fs fd (n + 1) (nI q) (nI k) a1 a2 a3 a4 a5 a6 a7 a8 a9 a10 a11 a12 a13 := by
  refine br_f (nI_pos (by omega)) (ty_nameOf hq ⟨pk_in k 3 hk, nm_r (e' := upd a13 k (nI (q % 4))) ?_ (ty_parentOf hq (nm_e h))⟩)
  rw [nI_clamp (by omega)]
theorem ty_g19e {post : St2 → Prop} {t n : Nat} {x3 x4 : Int32} (ht : t < 9) (hx : x4 < 0) (h : ∃ n, wX_findWay_2_63 post fm fp fl fa fc fw fs fd n 0 a1 a2 a3 a4 a5 a6 a7 a8 a9 a10 a11 (upd a12 0 (a6 t)) a13) : wX_findWay_2_19 post (nI t) fm fp fl fa fc fw fs fd (n + 1) x3 x4 a1 a2 a3 a4 a5 a6 a7 a8 a9 a10 a11 a12 a13 := by
  refine br_t hx ⟨pk_in t 9 ht, nm_r (e' := upd a12 0 (a6 t)) ?_ h⟩
  rw [nI_clamp (by omega)]
theorem ty_xay1 {post : St2 → Prop} {t p r c : Nat} (ht : t < 9) (hp : p < 4) (hr : a6 t = nI r) (hr' : r < 1000) (hc : a3 (4 * r + p) = nI c)
    (H : ∀ b12 b13 : Nat → Int32, b12 0 = nI r → b12 1 = nI c → b13 0 = nI p → post (fm, fp, fl, fa, fc, fw, fs, nI 1, a1, a2, a3, a4, a5, a6, a7, a8, a9, a10, a11, b12, b13)) : wpX_findWay_2 post (fm, fp, fl, fa, fc, fw, fs, fd, a1, a2, a3, a4, a5, a6, a7, a8, a9, a10, a11, a12, a13) (nI t) (nI p) := by
  unfold wpX_findWay_2
  refine ty_levelOf (by omega) ?_
  rw [show ty_lev p = 1 from if_pos hp]
  refine nm_r (e' := nI 0) rfl ⟨2, ty_g19s (by omega) (by omega) (ty_g19e ht (by decide) (ty_g63 (w := ty_w4 r c 0 0) (nm := fun _ => p) (by omega) ?_ ?_ ?_))⟩
  · rw [pk_us]
    exact hr
  · intro k hk
    rw [show k = 0 by omega]
    refine ⟨hr', hp, ?_, hc⟩
    rw [pk_us, Nat.mod_eq_of_lt hp]
  · intro b12 hb
    refine H b12 _ (hb 0 (by omega)) (hb 1 (by omega)) ?_
    rw [pk_us, Nat.mod_eq_of_lt hp]
theorem ty_xay2 {post : St2 → Prop} {t p q n r c d : Nat} (ht : t < 9) (hq : q < 4) (hn : n < 4) (hp : p = 4 + 4 * q + n) (hr : a6 t = nI r) (hr' : r < 1000) (hc : a3 (4 * r + q) = nI c) (hc' : c < 1000) (hd : a3 (4 * c + n) = nI d)
    (H : ∀ b12 b13 : Nat → Int32, b12 2 = nI d → post (fm, fp, fl, fa, fc, fw, fs, nI 2, a1, a2, a3, a4, a5, a6, a7, a8, a9, a10, a11, b12, b13)) : wpX_findWay_2 post (fm, fp, fl, fa, fc, fw, fs, fd, a1, a2, a3, a4, a5, a6, a7, a8, a9, a10, a11, a12, a13) (nI t) (nI p) := by
  unfold wpX_findWay_2
  refine ty_levelOf (by omega) ?_
  rw [show ty_lev p = 2 from by unfold ty_lev; rw [if_neg (by omega), if_pos (by omega)]]
  refine nm_r (e' := nI 1) rfl ⟨3, ty_g19s (by omega) (by omega) ?_⟩
  rw [show ty_par p = nI q from by unfold ty_par; rw [if_neg (by omega), if_pos (by omega), show (p - 4) / 4 = q by omega], show nI 1 + (-1) = nI 0 from rfl]
  refine ty_g19s (by omega) (by omega) (ty_g19e ht (by decide) (ty_g63 (w := ty_w4 r c d 0) (nm := ty_w4 q n 0 0) (by omega) ?_ ?_ ?_))
  · rw [pk_us]
    exact hr
  · intro k hk
    rcases (show k = 0 ∨ k = 1 by omega) with rfl | rfl
    · refine ⟨hr', hq, ?_, hc⟩
      rw [pk_us, Nat.mod_eq_of_lt hq]
      rfl
    · refine ⟨hc', hn, ?_, hd⟩
      rw [pk_un (by omega), pk_us, show p % 4 = n by omega]
      rfl
  · intro b12 hb
    exact H b12 _ (hb 2 (by omega))
theorem ty_xay3 {post : St2 → Prop} {t p q s n r c d e : Nat} (ht : t < 9) (hq : q < 4) (hs : s < 4) (hn : n < 4) (hp : p = 20 + 16 * q + 4 * s + n) (hr : a6 t = nI r) (hr' : r < 1000) (hc : a3 (4 * r + q) = nI c) (hc' : c < 1000) (hd : a3 (4 * c + s) = nI d) (hd' : d < 1000) (he : a3 (4 * d + n) = nI e)
    (H : ∀ b12 b13 : Nat → Int32, b12 3 = nI e → post (fm, fp, fl, fa, fc, fw, fs, nI 3, a1, a2, a3, a4, a5, a6, a7, a8, a9, a10, a11, b12, b13)) : wpX_findWay_2 post (fm, fp, fl, fa, fc, fw, fs, fd, a1, a2, a3, a4, a5, a6, a7, a8, a9, a10, a11, a12, a13) (nI t) (nI p) := by
  unfold wpX_findWay_2
  refine ty_levelOf (by omega) ?_
  rw [show ty_lev p = 3 from by unfold ty_lev; rw [if_neg (by omega), if_neg (by omega)]]
  refine nm_r (e' := nI 2) rfl ⟨4, ty_g19s (by omega) (by omega) ?_⟩
  rw [show ty_par p = nI (4 + 4 * q + s) from by unfold ty_par; rw [if_neg (by omega), if_neg (by omega), show 4 + (p - 20) / 4 = 4 + 4 * q + s by omega], show nI 2 + (-1) = nI 1 from rfl]
  refine ty_g19s (by omega) (by omega) ?_
  rw [show ty_par (4 + 4 * q + s) = nI q from by unfold ty_par; rw [if_neg (by omega), if_pos (by omega), show (4 + 4 * q + s - 4) / 4 = q by omega], show nI 1 + (-1) = nI 0 from rfl]
  refine ty_g19s (by omega) (by omega) (ty_g19e ht (by decide) (ty_g63 (w := ty_w4 r c d e) (nm := ty_w4 q s n 0) (by omega) ?_ ?_ ?_))
  · rw [pk_us]
    exact hr
  · intro k hk
    rcases (show k = 0 ∨ k = 1 ∨ k = 2 by omega) with rfl | rfl | rfl
    · refine ⟨hr', hq, ?_, hc⟩
      rw [pk_us, Nat.mod_eq_of_lt hq]
      rfl
    · refine ⟨hc', hs, ?_, hd⟩
      rw [pk_un (by omega), pk_us, show (4 + 4 * q + s) % 4 = s by omega]
      rfl
    · refine ⟨hd', hn, ?_, he⟩
      rw [pk_un (by omega), pk_un (by omega), pk_us, show p % 4 = n by omega]
      rfl
  · intro b12 hb
    exact H b12 _ (hb 3 (by omega))
theorem ty_bt1 {post : Int32 → St2 → Prop} {t p r c : Nat} (ht : t < 9) (hp : p < 4) (hr : a6 t = nI r) (hr' : r < 1000) (hc : a3 (4 * r + p) = nI c)
    (H : ∀ (gd : Int32) (b12 b13 : Nat → Int32), post (nI c) (fm, fp, fl, fa, fc, fw, fs, gd, a1, a2, a3, a4, a5, a6, a7, a8, a9, a10, a11, b12, b13)) : wpX_contentAt_2 post (fm, fp, fl, fa, fc, fw, fs, fd, a1, a2, a3, a4, a5, a6, a7, a8, a9, a10, a11, a12, a13) (nI t) (nI p) := by
  unfold wpX_contentAt_2
  refine ty_xay1 ht hp hr hr' hc (fun b12 b13 h0 h1 _ => ⟨pk_in 1 4 (by omega), ?_⟩)
  rw [nI_clamp (show 1 < 2 ^ 31 by omega), h1]
  exact H _ _ _
theorem ty_bt2 {post : Int32 → St2 → Prop} {t p q n r c d : Nat} (ht : t < 9) (hq : q < 4) (hn : n < 4) (hp : p = 4 + 4 * q + n) (hr : a6 t = nI r) (hr' : r < 1000) (hc : a3 (4 * r + q) = nI c) (hc' : c < 1000) (hd : a3 (4 * c + n) = nI d)
    (H : ∀ (gd : Int32) (b12 b13 : Nat → Int32), post (nI d) (fm, fp, fl, fa, fc, fw, fs, gd, a1, a2, a3, a4, a5, a6, a7, a8, a9, a10, a11, b12, b13)) : wpX_contentAt_2 post (fm, fp, fl, fa, fc, fw, fs, fd, a1, a2, a3, a4, a5, a6, a7, a8, a9, a10, a11, a12, a13) (nI t) (nI p) := by
  unfold wpX_contentAt_2
  refine ty_xay2 ht hq hn hp hr hr' hc hc' hd (fun b12 b13 h1 => ⟨pk_in 2 4 (by omega), ?_⟩)
  rw [nI_clamp (show 2 < 2 ^ 31 by omega), h1]
  exact H _ _ _
theorem ty_bt3 {post : Int32 → St2 → Prop} {t p q s n r c d e : Nat} (ht : t < 9) (hq : q < 4) (hs : s < 4) (hn : n < 4) (hp : p = 20 + 16 * q + 4 * s + n) (hr : a6 t = nI r) (hr' : r < 1000) (hc : a3 (4 * r + q) = nI c) (hc' : c < 1000) (hd : a3 (4 * c + s) = nI d) (hd' : d < 1000) (he : a3 (4 * d + n) = nI e)
    (H : ∀ (gd : Int32) (b12 b13 : Nat → Int32), post (nI e) (fm, fp, fl, fa, fc, fw, fs, gd, a1, a2, a3, a4, a5, a6, a7, a8, a9, a10, a11, b12, b13)) : wpX_contentAt_2 post (fm, fp, fl, fa, fc, fw, fs, fd, a1, a2, a3, a4, a5, a6, a7, a8, a9, a10, a11, a12, a13) (nI t) (nI p) := by
  unfold wpX_contentAt_2
  refine ty_xay3 ht hq hs hn hp hr hr' hc hc' hd hd' he (fun b12 b13 h1 => ⟨pk_in 3 4 (by omega), ?_⟩)
  rw [nI_clamp (show 3 < 2 ^ 31 by omega), h1]
  exact H _ _ _
end
end
section
section
variable {fm fp fl fa fc fw fs fd : Int32} {a1 a2 a3 a4 a5 a6 a7 a8 a9 a10 a11 a12 a13 : Nat → Int32}
theorem ty_w60 {post : Int32 → St2 → Prop} {f p : Nat} {c x5 x6 z0 : Int32} (hf : f < 1000) (hp : p < 4) (h : wpX_content post (fm, fp, fl, fa, fc, fw, fs, fd, a1, a2, a3, a4, a5, a6, a7, a8, a9, a10, a11, a12, a13) 2 0 x5 x6 z0 (if p = 3 then c else a3 (4 * f + 3))) : wX_with_60 post (nI p) c (nI (4 * f)) x5 x6 z0 fm fp fl fa fc fw fs fd a1 a2 a3 a4 a5 a6 a7 a8 a9 a10 a11 a12 a13 := by
  refine pk_eq p 3 (fun z => ?_) (fun z => ⟨pk_in (4 * f + 3) 4096 (by omega) (nI_add _ 3), ?_⟩)
  · rw [if_pos z] at h
    exact h
  · rw [if_neg z] at h
    rw [show nI (4 * f) + 3 = nI (4 * f + 3) from nI_add _ 3, nI_clamp (by omega)]
    exact h
theorem ty_w40 {post : Int32 → St2 → Prop} {f p : Nat} {c x5 z0 : Int32} (hf : f < 1000) (hp : p < 4) (h : wpX_content post (fm, fp, fl, fa, fc, fw, fs, fd, a1, a2, a3, a4, a5, a6, a7, a8, a9, a10, a11, a12, a13) 2 0 x5 z0 (if p = 2 then c else a3 (4 * f + 2)) (if p = 3 then c else a3 (4 * f + 3))) : wX_with_40 post (nI p) c (nI (4 * f)) x5 z0 fm fp fl fa fc fw fs fd a1 a2 a3 a4 a5 a6 a7 a8 a9 a10 a11 a12 a13 := by
  refine pk_eq p 2 (fun z => ty_w60 hf hp ?_) (fun z => ⟨pk_in (4 * f + 2) 4096 (by omega) (nI_add _ 2), ?_⟩)
  · rw [if_pos z] at h
    exact h
  · rw [if_neg z] at h
    rw [show nI (4 * f) + 2 = nI (4 * f + 2) from nI_add _ 2, nI_clamp (by omega)]
    exact ty_w60 hf hp h
theorem ty_w20 {post : Int32 → St2 → Prop} {f p : Nat} {c z0 : Int32} (hf : f < 1000) (hp : p < 4) (h : wpX_content post (fm, fp, fl, fa, fc, fw, fs, fd, a1, a2, a3, a4, a5, a6, a7, a8, a9, a10, a11, a12, a13) 2 0 z0 (if p = 1 then c else a3 (4 * f + 1)) (if p = 2 then c else a3 (4 * f + 2)) (if p = 3 then c else a3 (4 * f + 3))) : wX_with_20 post (nI p) c (nI (4 * f)) z0 fm fp fl fa fc fw fs fd a1 a2 a3 a4 a5 a6 a7 a8 a9 a10 a11 a12 a13 := by
  refine pk_eq p 1 (fun z => ty_w40 hf hp ?_) (fun z => ⟨pk_in (4 * f + 1) 4096 (by omega) (nI_add _ 1), ?_⟩)
  · rw [if_pos z] at h
    exact h
  · rw [if_neg z] at h
    rw [show nI (4 * f) + 1 = nI (4 * f + 1) from nI_add _ 1, nI_clamp (by omega)]
    exact ty_w40 hf hp h
theorem ty_with {post : Int32 → St2 → Prop} {f p : Nat} {c : Int32} (hf : f < 1000) (hp : p < 4) (h : wpX_content post (fm, fp, fl, fa, fc, fw, fs, fd, a1, a2, a3, a4, a5, a6, a7, a8, a9, a10, a11, a12, a13) 2 0 (if p = 0 then c else a3 (4 * f)) (if p = 1 then c else a3 (4 * f + 1)) (if p = 2 then c else a3 (4 * f + 2)) (if p = 3 then c else a3 (4 * f + 3))) : wpX_with post (fm, fp, fl, fa, fc, fw, fs, fd, a1, a2, a3, a4, a5, a6, a7, a8, a9, a10, a11, a12, a13) (nI f) (nI p) c := by
  refine nm_r (e' := nI (4 * f)) (pk_mul 4 f) (pk_eq p 0 (fun z => ty_w20 hf hp ?_) (fun z => ⟨pk_in (4 * f) 4096 (by omega), ?_⟩))
  · rw [if_pos z] at h
    exact h
  · rw [if_neg z] at h
    rw [nI_clamp (by omega)]
    exact ty_w20 hf hp h
/-- a tree's content at a path of the first level is set: what its folder's new content is, the content's own lemma says -/
theorem ty_set {post : St2 → Prop} {t p r g : Nat} {c : Int32} (ht : t < 9) (hp : p < 4) (hr : a6 t = nI r) (hr' : r < 1000) (hc : a3 (4 * r + p) = nI g)
    (H : ∀ b12 b13 : Nat → Int32, wpX_content (fun y u => match u with | (fm, fp, fl, fa, fc, fw, fs, fd, a1, a2, a3, a4, a5, a6, a7, a8, a9, a10, a11, a12, a13) => post (fm, fp, fl, fa, fc, fw, fs, fd, a1, a2, a3, a4, a5, upd a6 t y, a7, a8, a9, a10, a11, a12, a13)) (fm, fp, fl, fa, fc, fw, fs, nI 1, a1, a2, a3, a4, a5, a6, a7, a8, a9, a10, a11, b12, b13) 2 0 (if p = 0 then c else a3 (4 * r)) (if p = 1 then c else a3 (4 * r + 1)) (if p = 2 then c else a3 (4 * r + 2)) (if p = 3 then c else a3 (4 * r + 3))) :
    wpX_setContent post (fm, fp, fl, fa, fc, fw, fs, fd, a1, a2, a3, a4, a5, a6, a7, a8, a9, a10, a11, a12, a13) (nI t) (nI p) c := by
  unfold wpX_setContent
  refine ty_xay1 ht hp hr hr' hc (fun b12 b13 h0 h1 h2 => nm_r (e' := nI 0) rfl ⟨2, ?_⟩)
  refine br_f (by decide) ⟨pk_in 0 4 (by omega), pk_in 0 3 (by omega), ?_⟩
  rw [nI_clamp (show 0 < 2 ^ 31 by omega), h0, h2]
  refine ty_with hr' hp ?_
  have e : (fun (y : Int32) (u : St2) => match u with | (fm, fp, fl, fa, fc, fw, fs, fd, a1, a2, a3, a4, a5, a6, a7, a8, a9, a10, a11, a12, a13) => post (fm, fp, fl, fa, fc, fw, fs, fd, a1, a2, a3, a4, a5, upd a6 t y, a7, a8, a9, a10, a11, a12, a13)) = (fun y u => match u with | (fm, fp, fl, fa, fc, fw, fs, fd, a1, a2, a3, a4, a5, a6, a7, a8, a9, a10, a11, a12, a13) => ∀ x5 : Int32, x5 = nI 0 + (-1) → wX_setContent_17 post (nI t) 1 y x5 fm fp fl fa fc fw fs fd a1 a2 a3 a4 a5 a6 a7 a8 a9 a10 a11 a12 a13) := by
    funext y u
    obtain ⟨fm, fp, fl, fa, fc, fw, fs, fd, a1, a2, a3, a4, a5, a6, a7, a8, a9, a10, a11, a12, a13⟩ := u
    apply propext
    constructor
    · intro hq
      refine nm_e (br_t (by decide) ⟨pk_in t 9 ht, nm_r (e' := upd a6 t y) ?_ hq⟩)
      rw [nI_clamp (by omega)]
    · intro hq
      have q2 := ((hq _ rfl).1 (by decide)).2 _ rfl
      rw [nI_clamp (show t < 2 ^ 31 by omega)] at q2
      exact q2
  have g2 := H b12 b13
  rw [e] at g2
  exact g2
/-- content f is a folder with c at name p and nothing else -/
def ty_fold (a1 a2 a3 : Nat → Int32) (f p : Nat) (c : Int32) : Prop := ty_is a1 a2 a3 f 2 0 (if p = 0 then c else 0) (if p = 1 then c else 0) (if p = 2 then c else 0) (if p = 3 then c else 0)
theorem ty_fold_at {f p q : Nat} {c : Int32} (h : ty_fold a1 a2 a3 f p c) (hq : q < 4) : a3 (4 * f + q) = if p = q then c else 0 := by
  obtain ⟨_, _, h0, h1, h2, h3⟩ := h
  rcases (show q = 0 ∨ q = 1 ∨ q = 2 ∨ q = 3 by omega) with rfl | rfl | rfl | rfl
  · exact h0
  · exact h1
  · exact h2
  · exact h3
theorem ty_ifif {p n : Nat} {c d : Int32} : (if p = n then c else (if p = n then d else 0)) = if p = n then c else 0 := by
  split <;> rfl
theorem ty_set_f {post : St2 → Prop} {m t p r f g : Nat} {c : Int32} (h : ty_H m a1 a2 a3 a4) (ht : t < 9) (hp : p < 4) (hr : a6 t = nI r) (hr' : r < 1000) (hF : ty_fold a1 a2 a3 r p (nI g))
    (hf1 : 1 ≤ f) (hf : f < m) (hG : ty_fold a1 a2 a3 f p c)
    (H : ∀ (gd : Int32) (b12 b13 : Nat → Int32), post (fm, fp, fl, fa, fc, fw, fs, gd, a1, a2, a3, a4, a5, upd a6 t (nI f), a7, a8, a9, a10, a11, b12, b13)) : wpX_setContent post (fm, fp, fl, fa, fc, fw, fs, fd, a1, a2, a3, a4, a5, a6, a7, a8, a9, a10, a11, a12, a13) (nI t) (nI p) c := by
  have hat := ty_fold_at hF hp
  rw [if_pos rfl] at hat
  obtain ⟨_, _, h0, h1, h2, h3⟩ := hF
  refine ty_set ht hp hr hr' hat (fun b12 b13 => ?_)
  rw [h0, h1, h2, h3, ty_ifif, ty_ifif, ty_ifif, ty_ifif]
  exact ty_content_f h hf1 hf hG (H _ _ _)
theorem ty_ite_rng {m p n : Nat} {c : Int32} (h1 : 1 ≤ m) (hc : ∃ j, j < m ∧ c = nI j) : ∃ j, j < m ∧ (if p = n then c else 0) = nI j := by
  split
  · exact hc
  · exact ⟨0, by omega, rfl⟩
theorem ty_set_n {post : St2 → Prop} {m t p r g : Nat} {c : Int32} (h : ty_H m a1 a2 a3 a4) (hm : m < 1000) (hmm : fm = nI m) (ht : t < 9) (hp : p < 4) (hr : a6 t = nI r) (hr' : r < 1000) (hF : ty_fold a1 a2 a3 r p (nI g))
    (hc : ∃ j, j < m ∧ c = nI j) (hn : ∀ f, 1 ≤ f → f < m → ¬ ty_fold a1 a2 a3 f p c)
    (H : ∀ (gd : Int32) (b1 b2 b3 b4 b12 b13 : Nat → Int32), ty_H (m + 1) b1 b2 b3 b4 → (∀ c, c < m → ty_is b1 b2 b3 c (a1 c) (a2 c) (a3 (4 * c)) (a3 (4 * c + 1)) (a3 (4 * c + 2)) (a3 (4 * c + 3))) → ty_fold b1 b2 b3 m p c →
      post (nI (m + 1), fp, fl, fa, fc, fw, fs, gd, b1, b2, b3, b4, a5, upd a6 t (nI m), a7, a8, a9, a10, a11, b12, b13)) : wpX_setContent post (fm, fp, fl, fa, fc, fw, fs, fd, a1, a2, a3, a4, a5, a6, a7, a8, a9, a10, a11, a12, a13) (nI t) (nI p) c := by
  have hat := ty_fold_at hF hp
  rw [if_pos rfl] at hat
  obtain ⟨_, _, h0, h1, h2, h3⟩ := hF
  have m1 : 1 ≤ m := h.1.1
  refine ty_set ht hp hr hr' hat (fun b12 b13 => ?_)
  rw [h0, h1, h2, h3, ty_ifif, ty_ifif, ty_ifif, ty_ifif]
  exact ty_content_n h hm hmm (ty_ite_rng m1 hc) (ty_ite_rng m1 hc) (ty_ite_rng m1 hc) (ty_ite_rng m1 hc) hn (fun b1 b2 b3 b4 k1 k2 k3 => H _ b1 b2 b3 b4 b12 b13 k1 k2 k3)
end
end
section
section
variable {fm fp fl fa fc fw fs fd : Int32} {a1 a2 a3 a4 a5 a6 a7 a8 a9 a10 a11 a12 a13 : Nat → Int32}
theorem ty_fill {f s : Nat → Int32} {i k : Nat} {x : Int32} (hk : k = i) (h : ∀ j, j < i → s j = f j) (hx : x = f i) : ∀ j, j < i + 1 → upd s k x j = f j := by
  intro j hj
  rw [hk]
  by_cases e : j = i
  · rw [e, pk_us, hx]
  · rw [pk_un e]
    exact h j (by omega)
theorem ty_start40 {post : St2 → Prop} {x : Int32} (H : ∀ b6 : Nat → Int32, (∀ t, t < 9 → b6 t = x) → post (fm, fp, fl, fa, fc, fw, fs, fd, a1, a2, a3, a4, a5, b6, a7, a8, a9, a10, a11, a12, a13)) : ∃ n, wX_start_40 post x fm fp fl fa fc fw fs fd n 0 a1 a2 a3 a4 a5 a6 a7 a8 a9 a10 a11 a12 a13 :=
  pk_loop (fun n i s => wX_start_40 post x fm fp fl fa fc fw fs fd n (nI i) a1 a2 a3 a4 a5 s a7 a8 a9 a10 a11 a12 a13) (fun i s => ∀ t, t < i → s t = x) 9 0 a6 (by omega) (fun t ht => absurd ht (by omega))
    (fun n s h => pk_le 9 9 (fun _ => H s h) (fun z => absurd z (by omega)))
    (fun n i s hi h hw => pk_le 9 i (fun z => absurd z (by omega)) (fun _ => ⟨pk_in i 9 hi, nm_e (nm_r (nI_1 i) (hw _ (ty_fill (f := fun _ => x) (nI_clamp (by omega)) h rfl)))⟩))
theorem ty_start7 {post : St2 → Prop} (H : ∀ b4 : Nat → Int32, (∀ t, t < 2048 → b4 t = -1) → wpX_content (fun r u => match u with | (fm, fp, fl, fa, fc, fw, fs, fd, a1, a2, a3, a4, a5, a6, a7, a8, a9, a10, a11, a12, a13) => ∃ n, wX_start_40 post r fm fp fl fa fc fw fs fd n 0 a1 a2 a3 a4 a5 a6 a7 a8 a9 a10 a11 a12 a13) (fm, fp, fl, fa, fc, fw, fs, fd, a1, a2, a3, b4, a5, a6, a7, a8, a9, a10, a11, a12, a13) 2 0 0 0 0 0) : ∃ n, wX_start_7 post fm fp fl fa fc fw fs fd n 0 a1 a2 a3 a4 a5 a6 a7 a8 a9 a10 a11 a12 a13 :=
  pk_loop (fun n i s => wX_start_7 post fm fp fl fa fc fw fs fd n (nI i) a1 a2 a3 s a5 a6 a7 a8 a9 a10 a11 a12 a13) (fun i s => ∀ t, t < i → s t = -1) 2048 0 a4 (by omega) (fun t ht => absurd ht (by omega))
    (fun n s h => pk_le 2048 2048 (fun _ => H s h) (fun z => absurd z (by omega)))
    (fun n i s hi h hw => pk_le 2048 i (fun z => absurd z (by omega)) (fun _ => ⟨pk_in i 2048 hi, nm_e (nm_r (nI_1 i) (hw _ (ty_fill (f := fun _ => -1) (nI_clamp (by omega)) h rfl)))⟩))
/-- a new object: one content, the empty folder, at the root of every tree -/
theorem ty_init {post : St2 → Prop} {mc ms : Nat} (hmc : 13 ≤ mc) (hms : 9577 ≤ ms)
    (H : ∀ b1 b2 b3 b4 b6 : Nat → Int32, ty_H 2 b1 b2 b3 b4 → ty_is b1 b2 b3 0 0 0 0 0 0 0 → ty_is b1 b2 b3 1 2 0 0 0 0 0 → (∀ t, t < 9 → b6 t = nI 1) →
      post (nI 2, -1, 0, 0, 0, 0, 0, 0, b1, b2, b3, b4, (fun _ => 0), b6, (fun _ => 0), (fun _ => 0), (fun _ => 0), (fun _ => 0), (fun _ => 0), (fun _ => 0), (fun _ => 0))) : wpX_init post mc ms (0, 0, 0, 0, 0, 0, 0, 0) := by
  refine ⟨by omega, by omega, by omega, by omega, by omega, by omega, by omega, by omega, by omega, by omega, by omega, by omega, by omega, by omega, by omega, by omega, by omega, by omega, by omega, by omega, by omega, by omega, by omega, by omega, by omega, by omega, ?_⟩
  unfold wpX_start
  refine ty_start7 (fun b4 h4 => ?_)
  refine ty_content_n (m := 1) (ty_H_0 h4) (by omega) rfl ⟨0, by omega, rfl⟩ ⟨0, by omega, rfl⟩ ⟨0, by omega, rfl⟩ ⟨0, by omega, rfl⟩ (fun c c1 c2 => absurd c2 (by omega)) (fun b1 b2 b3 b4 k1 k2 k3 => ?_)
  exact ty_start40 (fun b6 h6 => H b1 b2 b3 b4 b6 k1 (k2 0 (by omega)) k3 h6)
theorem ty_badSide {post : Int32 → Prop} {s : Nat} (hs : s < 2) (h : post 0) : wpX_badSide post (fm, fp, fl, fa, fc, fw, fs, fd, a1, a2, a3, a4, a5, a6, a7, a8, a9, a10, a11, a12, a13) (nI s) := br_f (nI_pos (by omega)) (br_t (nI_le (b := 1) (by omega) (by omega)) h)
theorem ty_badPath {post : Int32 → Prop} {p : Nat} (hp : p < 84) (h : post 0) : wpX_badPath post (fm, fp, fl, fa, fc, fw, fs, fd, a1, a2, a3, a4, a5, a6, a7, a8, a9, a10, a11, a12, a13) (nI p) := br_f (nI_pos (by omega)) (br_t (nI_lt (b := 84) (by omega) (by omega)) h)
theorem ty_hasParent {post : Int32 → St2 → Prop} {s : Int32} {p : Nat} (hp : p < 4) (h : post 1 (fm, fp, fl, fa, fc, fw, fs, fd, a1, a2, a3, a4, a5, a6, a7, a8, a9, a10, a11, a12, a13)) : wpX_hasParent post (fm, fp, fl, fa, fc, fw, fs, fd, a1, a2, a3, a4, a5, a6, a7, a8, a9, a10, a11, a12, a13) s (nI p) := by
  unfold wpX_hasParent
  exact ty_parentOf (by omega) (br_t (if_pos hp) h)
theorem ty_makeRoom {post : St2 → Prop} {m k : Nat} (hmm : fm = nI m) (hk : m + k ≤ 1024) (h : post (fm, fp, fl, fa, fc, fw, fs, fd, a1, a2, a3, a4, a5, a6, a7, a8, a9, a10, a11, a12, a13)) : wpX_makeRoom post (fm, fp, fl, fa, fc, fw, fs, fd, a1, a2, a3, a4, a5, a6, a7, a8, a9, a10, a11, a12, a13) (nI k) := by
  refine br_t ?_ h
  rw [hmm, nI_add]
  exact nI_le (b := 1024) hk (by omega)
theorem ty_is_tr {b1 b2 b3 : Nat → Int32} {c : Nat} {k x a b d e : Int32} (E : ty_is b1 b2 b3 c (a1 c) (a2 c) (a3 (4 * c)) (a3 (4 * c + 1)) (a3 (4 * c + 2)) (a3 (4 * c + 3))) (h : ty_is a1 a2 a3 c k x a b d e) : ty_is b1 b2 b3 c k x a b d e := by
  obtain ⟨s1, s2, s3, s4, s5, s6⟩ := h
  rw [s1, s2, s3, s4, s5, s6] at E
  exact E
theorem ty_is_fn {c : Nat} {k x a b d e k' x' a' b' d' e' : Int32} (h : ty_is a1 a2 a3 c k x a b d e) (g : ty_is a1 a2 a3 c k' x' a' b' d' e') : k = k' ∧ x = x' ∧ a = a' ∧ b = b' ∧ d = d' ∧ e = e' := by
  obtain ⟨s1, s2, s3, s4, s5, s6⟩ := h
  obtain ⟨t1, t2, t3, t4, t5, t6⟩ := g
  exact ⟨by rw [← s1, t1], by rw [← s2, t2], by rw [← s3, t3], by rw [← s4, t4], by rw [← s5, t5], by rw [← s6, t6]⟩
/-- what a write walks through ahead of its own: the content is nothing, so it goes on -/
theorem ty_write0 {post : Int32 → St2 → Prop} {m s p r : Nat} {x : Int32} (hm : m < 1000) (hmm : fm = nI m) (hs : s < 2) (hp : p < 4) (hr : a6 s = nI r) (hr' : r < 1000) (hF : ty_fold a1 a2 a3 r p (nI 0)) (h0 : a1 0 = 0)
    (H : ∀ (gd : Int32) (b12 b13 : Nat → Int32), wpX_content (fun y u => match u with | (fm, fp, fl, fa, fc, fw, fs, fd, a1, a2, a3, a4, a5, a6, a7, a8, a9, a10, a11, a12, a13) => wpX_setContent (fun u => match u with | (fm, fp, fl, fa, fc, fw, fs, fd, a1, a2, a3, a4, a5, a6, a7, a8, a9, a10, a11, a12, a13) => post 0 (fm, fp, fl, fa, fc, fw, fs, fd, a1, a2, a3, a4, a5, a6, a7, a8, a9, a10, a11, a12, a13)) (fm, fp, fl, fa, fc, fw, fs, fd, a1, a2, a3, a4, a5, a6, a7, a8, a9, a10, a11, a12, a13) (nI s) (nI p) y) (fm, fp, fl, fa, fc, fw, fs, gd, a1, a2, a3, a4, a5, a6, a7, a8, a9, a10, a11, b12, b13) 1 x 0 0 0 0) : wpX_write post (fm, fp, fl, fa, fc, fw, fs, fd, a1, a2, a3, a4, a5, a6, a7, a8, a9, a10, a11, a12, a13) (nI s) (nI p) x := by
  have hat := ty_fold_at hF hp
  rw [if_pos rfl] at hat
  unfold wpX_write
  refine ty_badSide hs (br_t rfl (ty_badPath (by omega) (br_t rfl (ty_hasParent hp (br_f (by decide) (ty_at1 (by omega) hp hr hr' hat (fun gd b12 b13 => ⟨pk_in 0 1024 (by omega), nm_r (e' := 0) ?_ (br_f (by decide) (ty_makeRoom (k := 8) hmm (by omega) (H gd b12 b13)))⟩)))))))
  rw [nI_clamp (show 0 < 2 ^ 31 by omega)]
  exact h0
theorem ty_write_n {post : Int32 → St2 → Prop} {m s p r : Nat} {x : Int32} (h : ty_H m a1 a2 a3 a4) (hm : m + 1 < 1000) (hmm : fm = nI m) (hs : s < 2) (hp : p < 4) (hr : a6 s = nI r) (hr' : r < m) (hF : ty_fold a1 a2 a3 r p (nI 0)) (h0 : a1 0 = 0)
    (hn1 : ∀ c, 1 ≤ c → c < m → ¬ ty_is a1 a2 a3 c 1 x 0 0 0 0) (hn2 : ∀ f, 1 ≤ f → f < m → ¬ ty_fold a1 a2 a3 f p (nI m))
    (H : ∀ (gd : Int32) (b1 b2 b3 b4 b12 b13 : Nat → Int32), ty_H (m + 2) b1 b2 b3 b4 → (∀ c, c < m → ty_is b1 b2 b3 c (a1 c) (a2 c) (a3 (4 * c)) (a3 (4 * c + 1)) (a3 (4 * c + 2)) (a3 (4 * c + 3))) → ty_is b1 b2 b3 m 1 x 0 0 0 0 → ty_fold b1 b2 b3 (m + 1) p (nI m) →
      post 0 (nI (m + 2), fp, fl, fa, fc, fw, fs, gd, b1, b2, b3, b4, a5, upd a6 s (nI (m + 1)), a7, a8, a9, a10, a11, b12, b13)) : wpX_write post (fm, fp, fl, fa, fc, fw, fs, fd, a1, a2, a3, a4, a5, a6, a7, a8, a9, a10, a11, a12, a13) (nI s) (nI p) x := by
  have m1 : 1 ≤ m := h.1.1
  refine ty_write0 (by omega) hmm hs hp hr (by omega) hF h0 (fun gd b12 b13 => ?_)
  refine ty_content_n h (by omega) hmm ⟨0, by omega, rfl⟩ ⟨0, by omega, rfl⟩ ⟨0, by omega, rfl⟩ ⟨0, by omega, rfl⟩ hn1 (fun b1 b2 b3 b4 k1 k2 k3 => ?_)
  refine ty_set_n k1 (by omega) rfl (by omega) hp hr (by omega) (ty_is_tr (k2 r hr') hF) ⟨m, by omega, rfl⟩ ?_ (fun gd' c1 c2 c3 c4 c12 c13 l1 l2 l3 => ?_)
  · intro f f1 f2 hf
    by_cases e : f = m
    · subst e
      exact absurd (ty_is_fn k3 hf).1 (by decide)
    · have hb := k2 f (by omega)
      obtain ⟨s1, s2, s3, s4, s5, s6⟩ := ty_is_fn hb hf
      exact hn2 f f1 (by omega) ⟨s1, s2, s3, s4, s5, s6⟩
  · exact H gd' c1 c2 c3 c4 c12 c13 l1 (fun c hc => ty_is_tr (l2 c (by omega)) (k2 c hc)) (ty_is_tr (l2 m (by omega)) k3) l3
theorem ty_write_f {post : Int32 → St2 → Prop} {m s p r c f : Nat} {x : Int32} (h : ty_H m a1 a2 a3 a4) (hm : m < 1000) (hmm : fm = nI m) (hs : s < 2) (hp : p < 4) (hr : a6 s = nI r) (hr' : r < m) (hF : ty_fold a1 a2 a3 r p (nI 0)) (h0 : a1 0 = 0)
    (hc1 : 1 ≤ c) (hc : c < m) (hk : ty_is a1 a2 a3 c 1 x 0 0 0 0) (hf1 : 1 ≤ f) (hf : f < m) (hG : ty_fold a1 a2 a3 f p (nI c))
    (H : ∀ (gd : Int32) (b12 b13 : Nat → Int32), post 0 (fm, fp, fl, fa, fc, fw, fs, gd, a1, a2, a3, a4, a5, upd a6 s (nI f), a7, a8, a9, a10, a11, b12, b13)) : wpX_write post (fm, fp, fl, fa, fc, fw, fs, fd, a1, a2, a3, a4, a5, a6, a7, a8, a9, a10, a11, a12, a13) (nI s) (nI p) x :=
  ty_write0 (by omega) hmm hs hp hr (by omega) hF h0 (fun gd b12 b13 => ty_content_f h hc1 hc hk (ty_set_f h (by omega) hp hr (by omega) hF hf1 hf hG (fun gd' c12 c13 => H gd' c12 c13)))
end
end
section
section
variable {fm fp fl fa fc fw fs fd : Int32} {a1 a2 a3 a4 a5 a6 a7 a8 a9 a10 a11 a12 a13 : Nat → Int32}
/-- all three trees alike at a path: nothing happens -/
theorem ty_sp_eq {post : St2 → Prop} {q r0 r1 r2 c : Nat} (hq : q < 4) (h0 : a6 0 = nI r0) (h1 : a6 1 = nI r1) (h2 : a6 2 = nI r2) (l0 : r0 < 1000) (l1 : r1 < 1000) (l2 : r2 < 1000)
    (c0 : a3 (4 * r0 + q) = nI c) (c1 : a3 (4 * r1 + q) = nI c) (c2 : a3 (4 * r2 + q) = nI c)
    (H : ∀ (gd : Int32) (b12 b13 : Nat → Int32), post (fm, fp, fl, fa, fc, fw, fs, gd, a1, a2, a3, a4, a5, a6, a7, a8, a9, a10, a11, b12, b13)) : wpX_stepPath post (fm, fp, fl, fa, fc, fw, fs, fd, a1, a2, a3, a4, a5, a6, a7, a8, a9, a10, a11, a12, a13) (nI q) := by
  unfold wpX_stepPath
  exact ty_bt1 (t := 0) (by omega) hq h0 l0 c0 (fun _ _ _ => ty_bt1 (t := 1) (by omega) hq h1 l1 c1 (fun _ _ _ => ty_bt1 (t := 2) (by omega) hq h2 l2 c2 (fun _ _ _ => br_t rfl (br_t rfl (H _ _ _)))))
/-- the sides alike, the last tree not: it is set -/
theorem ty_sp_set {post : St2 → Prop} {m p r0 r1 r2 c l f : Nat} (h : ty_H m a1 a2 a3 a4) (hp : p < 4) (h0 : a6 0 = nI r0) (h1 : a6 1 = nI r1) (h2 : a6 2 = nI r2) (l0 : r0 < m) (l1 : r1 < m) (l2 : r2 < m)
    (F0 : ty_fold a1 a2 a3 r0 p (nI c)) (F1 : ty_fold a1 a2 a3 r1 p (nI c)) (F2 : ty_fold a1 a2 a3 r2 p (nI l)) (hc : c < m) (hl : l < m) (hne : l ≠ c)
    (hf1 : 1 ≤ f) (hf : f < m) (hG : ty_fold a1 a2 a3 f p (nI c))
    (H : ∀ (gd : Int32) (b12 b13 : Nat → Int32), post (fm, fp, fl, fa, fc, fw, fs, gd, a1, a2, a3, a4, a5, upd a6 2 (nI f), a7, a8, a9, a10, a11, b12, b13)) : wpX_stepPath post (fm, fp, fl, fa, fc, fw, fs, fd, a1, a2, a3, a4, a5, a6, a7, a8, a9, a10, a11, a12, a13) (nI p) := by
  have hm := h.1.2
  have e0 := ty_fold_at F0 hp
  have e1 := ty_fold_at F1 hp
  have e2 := ty_fold_at F2 hp
  rw [if_pos rfl] at e0 e1 e2
  have hN : ¬ nI l = nI c := by
    rw [nI_eq (by omega) (by omega)]
    exact hne
  unfold wpX_stepPath
  exact ty_bt1 (t := 0) (by omega) hp h0 (by omega) e0 (fun _ _ _ => ty_bt1 (t := 1) (by omega) hp h1 (by omega) e1 (fun _ _ _ => ty_bt1 (t := 2) (by omega) hp h2 (by omega) e2 (fun _ _ _ => br_t rfl (br_f hN (ty_set_f (t := 2) h (by omega) hp h2 (by omega) F2 hf1 hf hG (fun _ _ _ => H _ _ _))))))
/-- an action: a side and the last tree get the content -/
theorem ty_act {post : St2 → Prop} {m p s r r2 g g2 f : Nat} {c : Int32} (h : ty_H m a1 a2 a3 a4) (hp : p < 4) (hs : s < 2) (hr : a6 s = nI r) (h2 : a6 2 = nI r2) (lr : r < m) (l2 : r2 < m)
    (F : ty_fold a1 a2 a3 r p (nI g)) (F2 : ty_fold a1 a2 a3 r2 p (nI g2)) (hf1 : 1 ≤ f) (hf : f < m) (hG : ty_fold a1 a2 a3 f p c) (ha : fa = nI 0) (hw : fw = nI 84)
    (H : ∀ (gd : Int32) (b9 b10 b12 b13 : Nat → Int32), post (fm, fp, fl, nI 1, fc, fw, fs, gd, a1, a2, a3, a4, a5, upd (upd a6 s (nI f)) 2 (nI f), a7, a8, b9, b10, a11, b12, b13)) : wpX_act post (fm, fp, fl, fa, fc, fw, fs, fd, a1, a2, a3, a4, a5, a6, a7, a8, a9, a10, a11, a12, a13) (nI p) (nI s) c := by
  have hm := h.1.2
  subst ha hw
  refine br_f (by decide) ⟨pk_in 0 84 (by omega), nm_e ⟨pk_in 0 84 (by omega), nm_e (nm_r (e' := nI 1) rfl ?_)⟩⟩
  refine ty_set_f h (by omega) hp hr (by omega) F hf1 hf hG (fun _ _ _ => ty_set_f (t := 2) h (by omega) hp ?_ (by omega) F2 hf1 hf hG (fun _ _ _ => H _ _ _ _ _))
  rw [pk_un (by omega)]
  exact h2
/-- the sides unlike, both unlike the last tree, the first no folder: a conflict -/
theorem ty_sp_conf {post : St2 → Prop} {m p r0 r1 r2 c d l : Nat} (h : ty_H m a1 a2 a3 a4) (hp : p < 4) (h0 : a6 0 = nI r0) (h1 : a6 1 = nI r1) (h2 : a6 2 = nI r2) (l0 : r0 < m) (l1 : r1 < m) (l2 : r2 < m)
    (F0 : ty_fold a1 a2 a3 r0 p (nI c)) (F1 : ty_fold a1 a2 a3 r1 p (nI d)) (F2 : ty_fold a1 a2 a3 r2 p (nI l)) (hc : c < m) (hd : d < m) (hl : l < m) (n1 : c ≠ d) (n2 : c ≠ l) (n3 : d ≠ l) (hk : ¬ a1 c = 2)
    (H : ∀ (gd : Int32) (b12 b13 : Nat → Int32), wpX_meetConflict (fun u => match u with | (fm, fp, fl, fa, fc, fw, fs, fd, a1, a2, a3, a4, a5, a6, a7, a8, a9, a10, a11, a12, a13) => post (fm, fp, fl, fa, fc, fw, fs, fd, a1, a2, a3, a4, a5, a6, a7, a8, a9, a10, a11, a12, a13)) (fm, fp, fl, fa, fc, fw, fs, gd, a1, a2, a3, a4, a5, a6, a7, a8, a9, a10, a11, b12, b13) (nI p) (nI c) (nI d)) : wpX_stepPath post (fm, fp, fl, fa, fc, fw, fs, fd, a1, a2, a3, a4, a5, a6, a7, a8, a9, a10, a11, a12, a13) (nI p) := by
  have hm := h.1.2
  have e0 := ty_fold_at F0 hp
  have e1 := ty_fold_at F1 hp
  have e2 := ty_fold_at F2 hp
  rw [if_pos rfl] at e0 e1 e2
  have N1 : ¬ nI c = nI d := by
    rw [nI_eq (by omega) (by omega)]
    exact n1
  have N2 : ¬ nI c = nI l := by
    rw [nI_eq (by omega) (by omega)]
    exact n2
  have N3 : ¬ nI d = nI l := by
    rw [nI_eq (by omega) (by omega)]
    exact n3
  have hk' : ¬ a1 (nI c).toNatClampNeg = 2 := by
    rw [nI_clamp (by omega)]
    exact hk
  unfold wpX_stepPath
  refine ty_bt1 (t := 0) (by omega) hp h0 (by omega) e0 (fun _ _ _ => ty_bt1 (t := 1) (by omega) hp h1 (by omega) e1 (fun _ _ _ => ty_bt1 (t := 2) (by omega) hp h2 (by omega) e2 (fun _ _ _ => br_f N1 ⟨vp_in_nI (by omega) (by omega), br_f hk' ?_⟩)))
  exact br_f N2 (br_f N3 (H _ _ _))
/-- what a stepping does at its one path p, and nowhere else: the roots a6 become e6, na actions, nc conflicts -/
def ty_ev (fm fp : Int32) (a1 a2 a3 a4 a5 a6 a7 : Nat → Int32) (p na nc : Nat) (e6 : Nat → Int32) : Prop :=
  ∀ (post : St2 → Prop) (fl fd : Int32) (a8 a9 a10 a11 a12 a13 : Nat → Int32),
    (∀ (gd : Int32) (b9 b10 b11 b12 b13 : Nat → Int32), post (fm, fp, fl, nI na, nI nc, nI 84, nI 0, gd, a1, a2, a3, a4, a5, e6, a7, a8, b9, b10, b11, b12, b13)) →
    wpX_stepPath post (fm, fp, fl, nI 0, nI 0, nI 84, nI 0, fd, a1, a2, a3, a4, a5, a6, a7, a8, a9, a10, a11, a12, a13) (nI p)
theorem ty_ev_eq {p r0 r1 r2 c : Nat} (hp : p < 4) (h0 : a6 0 = nI r0) (h1 : a6 1 = nI r1) (h2 : a6 2 = nI r2) (l0 : r0 < 1000) (l1 : r1 < 1000) (l2 : r2 < 1000)
    (F0 : ty_fold a1 a2 a3 r0 p (nI c)) (F1 : ty_fold a1 a2 a3 r1 p (nI c)) (F2 : ty_fold a1 a2 a3 r2 p (nI c)) : ty_ev fm fp a1 a2 a3 a4 a5 a6 a7 p 0 0 a6 := by
  intro post fl fd a8 a9 a10 a11 a12 a13 H
  have e0 := ty_fold_at F0 hp
  have e1 := ty_fold_at F1 hp
  have e2 := ty_fold_at F2 hp
  rw [if_pos rfl] at e0 e1 e2
  exact ty_sp_eq hp h0 h1 h2 l0 l1 l2 e0 e1 e2 (fun _ _ _ => H _ _ _ _ _ _)
theorem ty_ev_set {m p r0 r1 r2 c l f : Nat} (h : ty_H m a1 a2 a3 a4) (hp : p < 4) (h0 : a6 0 = nI r0) (h1 : a6 1 = nI r1) (h2 : a6 2 = nI r2) (l0 : r0 < m) (l1 : r1 < m) (l2 : r2 < m)
    (F0 : ty_fold a1 a2 a3 r0 p (nI c)) (F1 : ty_fold a1 a2 a3 r1 p (nI c)) (F2 : ty_fold a1 a2 a3 r2 p (nI l)) (hc : c < m) (hl : l < m) (hne : l ≠ c)
    (hf1 : 1 ≤ f) (hf : f < m) (hG : ty_fold a1 a2 a3 f p (nI c)) : ty_ev fm fp a1 a2 a3 a4 a5 a6 a7 p 0 0 (upd a6 2 (nI f)) := by
  intro post fl fd a8 a9 a10 a11 a12 a13 H
  exact ty_sp_set h hp h0 h1 h2 l0 l1 l2 F0 F1 F2 hc hl hne hf1 hf hG (fun _ _ _ => H _ _ _ _ _ _)
theorem ty_ev_conf {m p r0 r1 r2 c d l : Nat} (h : ty_H m a1 a2 a3 a4) (hp : p < 4) (h0 : a6 0 = nI r0) (h1 : a6 1 = nI r1) (h2 : a6 2 = nI r2) (l0 : r0 < m) (l1 : r1 < m) (l2 : r2 < m)
    (F0 : ty_fold a1 a2 a3 r0 p (nI c)) (F1 : ty_fold a1 a2 a3 r1 p (nI d)) (F2 : ty_fold a1 a2 a3 r2 p (nI l)) (hc : c < m) (hd : d < m) (hl : l < m) (n1 : c ≠ d) (n2 : c ≠ l) (n3 : d ≠ l) (hk : ¬ a1 c = 2)
    (hpr : fp = -1) : ty_ev fm fp a1 a2 a3 a4 a5 a6 a7 p 0 1 a6 := by
  intro post fl fd a8 a9 a10 a11 a12 a13 H
  subst hpr
  refine ty_sp_conf h hp h0 h1 h2 l0 l1 l2 F0 F1 F2 hc hd hl n1 n2 n3 hk (fun _ _ _ => ?_)
  exact ⟨pk_in 0 84 (by omega), nm_e (nm_r (e' := nI 1) rfl (br_f (by decide) (br_f (by decide) (H _ _ _ _ _ _))))⟩
theorem ty_ev_pref0 {m p r0 r1 r2 c d l : Nat} (h : ty_H m a1 a2 a3 a4) (hp : p < 4) (h0 : a6 0 = nI r0) (h1 : a6 1 = nI r1) (h2 : a6 2 = nI r2) (l0 : r0 < m) (l1 : r1 < m) (l2 : r2 < m)
    (F0 : ty_fold a1 a2 a3 r0 p (nI c)) (F1 : ty_fold a1 a2 a3 r1 p (nI d)) (F2 : ty_fold a1 a2 a3 r2 p (nI l)) (hc : c < m) (hd : d < m) (hl : l < m) (n1 : c ≠ d) (n2 : c ≠ l) (n3 : d ≠ l) (hk : ¬ a1 c = 2)
    (hr1 : 1 ≤ r0) (hpr : fp = nI 0) : ty_ev fm fp a1 a2 a3 a4 a5 a6 a7 p 1 1 (upd (upd a6 1 (nI r0)) 2 (nI r0)) := by
  intro post fl fd a8 a9 a10 a11 a12 a13 H
  subst hpr
  refine ty_sp_conf h hp h0 h1 h2 l0 l1 l2 F0 F1 F2 hc hd hl n1 n2 n3 hk (fun _ _ _ => ?_)
  exact ⟨pk_in 0 84 (by omega), nm_e (nm_r (e' := nI 1) rfl (br_t (by decide) (ty_act (s := 1) h hp (by omega) h1 h2 l1 l2 F1 F2 hr1 l0 F0 rfl rfl (fun _ _ _ _ _ => H _ _ _ _ _ _))))⟩
theorem ty_ev_pref1 {m p r0 r1 r2 c d l : Nat} (h : ty_H m a1 a2 a3 a4) (hp : p < 4) (h0 : a6 0 = nI r0) (h1 : a6 1 = nI r1) (h2 : a6 2 = nI r2) (l0 : r0 < m) (l1 : r1 < m) (l2 : r2 < m)
    (F0 : ty_fold a1 a2 a3 r0 p (nI c)) (F1 : ty_fold a1 a2 a3 r1 p (nI d)) (F2 : ty_fold a1 a2 a3 r2 p (nI l)) (hc : c < m) (hd : d < m) (hl : l < m) (n1 : c ≠ d) (n2 : c ≠ l) (n3 : d ≠ l) (hk : ¬ a1 c = 2)
    (hr1 : 1 ≤ r1) (hpr : fp = nI 1) : ty_ev fm fp a1 a2 a3 a4 a5 a6 a7 p 1 1 (upd (upd a6 0 (nI r1)) 2 (nI r1)) := by
  intro post fl fd a8 a9 a10 a11 a12 a13 H
  subst hpr
  refine ty_sp_conf h hp h0 h1 h2 l0 l1 l2 F0 F1 F2 hc hd hl n1 n2 n3 hk (fun _ _ _ => ?_)
  exact ⟨pk_in 0 84 (by omega), nm_e (nm_r (e' := nI 1) rfl (br_f (by decide) (br_t (by decide) (ty_act (s := 0) h hp (by omega) h0 h2 l0 l2 F0 F2 hr1 l1 F1 rfl rfl (fun _ _ _ _ _ => H _ _ _ _ _ _)))))⟩
end
end
section
section
variable {fm fp fl fa fc fw fs fd : Int32} {a1 a2 a3 a4 a5 a6 a7 a8 a9 a10 a11 a12 a13 : Nat → Int32}
/-- one turn of the stepping: path 3 - k is looked at, k are left on the pile -/
theorem ty_s59 {post : St2 → Prop} {m k n : Nat} (hmm : fm = nI m) (hm : m ≤ 1000) (hk : k < 4) (h8 : a8 k = nI (3 - k)) (hs : fs = nI 0)
    (H : wpX_stepPath (fun u => match u with | (fm, fp, fl, fa, fc, fw, fs, fd, a1, a2, a3, a4, a5, a6, a7, a8, a9, a10, a11, a12, a13) => wX_stepAll_59 post n (nI (4 - k)) fm fp fl fa fc fw fs fd a1 a2 a3 a4 a5 a6 a7 a8 a9 a10 a11 a12 a13) (fm, fp, nI k, fa, fc, fw, fs, fd, a1, a2, a3, a4, a5, a6, a7, a8, a9, a10, a11, a12, a13) (nI (3 - k))) : wX_stepAll_59 post (n + 1) (nI (4 - (k + 1))) fm fp (nI (k + 1)) fa fc fw fs fd a1 a2 a3 a4 a5 a6 a7 a8 a9 a10 a11 a12 a13 := by
  subst hmm hs
  refine pk_le 84 (4 - (k + 1)) (fun z => absurd z (by omega)) (fun _ => pk_le (k + 1) 0 (fun z => absurd z (by omega)) (fun _ => br_t rfl (ty_makeRoom (k := 16) rfl (by omega) (nm_r (e' := nI k) (nI_pred k) ⟨vp_in_nI (by omega) (by omega), ?_⟩))))
  rw [nI_clamp (show k < 2 ^ 31 by omega), h8]
  have e : (fun (u : St2) => match u with | (fm, fp, fl, fa, fc, fw, fs, fd, a1, a2, a3, a4, a5, a6, a7, a8, a9, a10, a11, a12, a13) => wX_stepAll_59 post n (nI (4 - k)) fm fp fl fa fc fw fs fd a1 a2 a3 a4 a5 a6 a7 a8 a9 a10 a11 a12 a13) = (fun u => match u with | (fm, fp, fl, fa, fc, fw, fs, fd, a1, a2, a3, a4, a5, a6, a7, a8, a9, a10, a11, a12, a13) => ∀ x2 : Int32, x2 = nI (4 - (k + 1)) + 1 → wX_stepAll_59 post n x2 fm fp fl fa fc fw fs fd a1 a2 a3 a4 a5 a6 a7 a8 a9 a10 a11 a12 a13) := by
    funext u
    obtain ⟨fm, fp, fl, fa, fc, fw, fs, fd, a1, a2, a3, a4, a5, a6, a7, a8, a9, a10, a11, a12, a13⟩ := u
    have ex : nI (4 - (k + 1)) + 1 = nI (4 - k) := by
      rw [nI_1, show 4 - (k + 1) + 1 = 4 - k by omega]
    apply propext
    constructor
    · intro hq
      exact nm_r ex hq
    · intro hq
      exact hq _ ex.symm
  rw [e] at H
  exact H
/-- the turns that find nothing to do -/
theorem ty_s59_rest {post : St2 → Prop} {m r0 r1 r2 : Nat} (hmm : fm = nI m) (hm : m ≤ 1000) (h8 : ∀ k, k < 4 → a8 k = nI (3 - k)) (hs : fs = nI 0) (h0 : a6 0 = nI r0) (h1 : a6 1 = nI r1) (h2 : a6 2 = nI r2) (l0 : r0 < 1000) (l1 : r1 < 1000) (l2 : r2 < 1000)
    (H : ∀ (gd : Int32) (b12 b13 : Nat → Int32), post (fm, fp, nI 0, fa, fc, fw, fs, gd, a1, a2, a3, a4, a5, a6, a7, a8, a9, a10, a11, b12, b13)) :
    ∀ (k : Nat), k ≤ 4 → (∀ q, 4 - k ≤ q → q < 4 → ∃ c, a3 (4 * r0 + q) = nI c ∧ a3 (4 * r1 + q) = nI c ∧ a3 (4 * r2 + q) = nI c) → ∀ (gd : Int32) (b12 b13 : Nat → Int32), wX_stepAll_59 post (k + 1) (nI (4 - k)) fm fp (nI k) fa fc fw fs gd a1 a2 a3 a4 a5 a6 a7 a8 a9 a10 a11 b12 b13 := by
  intro k
  induction k with
  | zero =>
    intro _ _ gd b12 b13
    exact pk_le 84 4 (fun z => absurd z (by omega)) (fun _ => pk_le 0 0 (fun _ => H gd b12 b13) (fun z => absurd z (by omega)))
  | succ k ih =>
    intro hk hc gd b12 b13
    obtain ⟨c, c0, c1, c2⟩ := hc (3 - k) (by omega) (by omega)
    exact ty_s59 hmm hm (by omega) (h8 k (by omega)) hs (ty_sp_eq (by omega) h0 h1 h2 l0 l1 l2 c0 c1 c2 (fun _ _ _ => ih (by omega) (fun q q1 q2 => hc q (by omega) q2) _ _ _))
/-- the stepping up to the one path p, then there, then on -/
theorem ty_s59_pre {post : St2 → Prop} {m p r0 r1 r2 : Nat} (hmm : fm = nI m) (hm : m ≤ 1000) (hp : p < 4) (h8 : ∀ k, k < 4 → a8 k = nI (3 - k)) (hs : fs = nI 0) (h0 : a6 0 = nI r0) (h1 : a6 1 = nI r1) (h2 : a6 2 = nI r2) (l0 : r0 < 1000) (l1 : r1 < 1000) (l2 : r2 < 1000)
    (hc : ∀ q, q < p → ∃ c, a3 (4 * r0 + q) = nI c ∧ a3 (4 * r1 + q) = nI c ∧ a3 (4 * r2 + q) = nI c)
    (H : ∀ (gd : Int32) (b12 b13 : Nat → Int32), wpX_stepPath (fun u => match u with | (fm, fp, fl, fa, fc, fw, fs, fd, a1, a2, a3, a4, a5, a6, a7, a8, a9, a10, a11, a12, a13) => wX_stepAll_59 post (3 - p + 1) (nI (4 - (3 - p))) fm fp fl fa fc fw fs fd a1 a2 a3 a4 a5 a6 a7 a8 a9 a10 a11 a12 a13) (fm, fp, nI (3 - p), fa, fc, fw, fs, gd, a1, a2, a3, a4, a5, a6, a7, a8, a9, a10, a11, b12, b13) (nI p)) :
    ∀ (j : Nat), j ≤ p → ∀ (gd : Int32) (b12 b13 : Nat → Int32), wX_stepAll_59 post (3 - p + j + 1 + 1) (nI (4 - (3 - p + j + 1))) fm fp (nI (3 - p + j + 1)) fa fc fw fs gd a1 a2 a3 a4 a5 a6 a7 a8 a9 a10 a11 b12 b13 := by
  intro j
  induction j with
  | zero =>
    intro _ gd b12 b13
    refine ty_s59 hmm hm (by omega) (h8 _ (by omega)) hs ?_
    have g := H gd b12 b13
    rw [show 3 - (3 - p) = p by omega]
    exact g
  | succ j ih =>
    intro hj gd b12 b13
    obtain ⟨c, c0, c1, c2⟩ := hc (3 - (3 - p + (j + 1))) (by omega)
    exact ty_s59 hmm hm (by omega) (h8 _ (by omega)) hs (ty_sp_eq (by omega) h0 h1 h2 l0 l1 l2 c0 c1 c2 (fun _ _ _ => ih (by omega) _ _ _))
/-- roots r0 r1 r2 are alike at every path of the first level but p -/
def ty_alike (a3 : Nat → Int32) (p r0 r1 r2 : Nat) : Prop := ∀ q, q < 4 → q ≠ p → ∃ c, a3 (4 * r0 + q) = nI c ∧ a3 (4 * r1 + q) = nI c ∧ a3 (4 * r2 + q) = nI c
theorem ty_alike_fold {p r0 r1 r2 : Nat} {x y z : Int32} (F0 : ty_fold a1 a2 a3 r0 p x) (F1 : ty_fold a1 a2 a3 r1 p y) (F2 : ty_fold a1 a2 a3 r2 p z) : ty_alike a3 p r0 r1 r2 := by
  intro q hq hne
  refine ⟨0, ?_, ?_, ?_⟩
  · rw [ty_fold_at F0 hq, if_neg (fun e => hne e.symm)]
    rfl
  · rw [ty_fold_at F1 hq, if_neg (fun e => hne e.symm)]
    rfl
  · rw [ty_fold_at F2 hq, if_neg (fun e => hne e.symm)]
    rfl
theorem ty_stepAll {post : St2 → Prop} {m p na nc r0 r1 r2 s0 s1 s2 : Nat} {e6 : Nat → Int32} (hmm : fm = nI m) (hm : m ≤ 1000) (hp : p < 4) (h0 : a6 0 = nI r0) (h1 : a6 1 = nI r1) (h2 : a6 2 = nI r2) (l0 : r0 < 1000) (l1 : r1 < 1000) (l2 : r2 < 1000)
    (k0 : e6 0 = nI s0) (k1 : e6 1 = nI s1) (k2 : e6 2 = nI s2) (j0 : s0 < 1000) (j1 : s1 < 1000) (j2 : s2 < 1000) (A : ty_alike a3 p r0 r1 r2) (B : ty_alike a3 p s0 s1 s2)
    (E : ty_ev fm fp a1 a2 a3 a4 a5 a6 a7 p na nc e6)
    (H : ∀ (gl gd : Int32) (b8 b9 b10 b11 b12 b13 : Nat → Int32), post (fm, fp, gl, nI na, nI nc, nI 84, nI 0, gd, a1, a2, a3, a4, a5, e6, a7, b8, b9, b10, b11, b12, b13)) : wpX_stepAll post (fm, fp, fl, fa, fc, fw, fs, fd, a1, a2, a3, a4, a5, a6, a7, a8, a9, a10, a11, a12, a13) 84 := by
  refine ⟨5, ?_⟩
  refine br_f (by decide) ⟨pk_in 0 90 (by omega), nm_e (nm_r (e' := nI 1) rfl (nm_r (e' := nI 2) rfl ?_))⟩
  refine br_f (by decide) ⟨pk_in 1 90 (by omega), nm_e (nm_r (e' := nI 2) rfl (nm_r (e' := nI 1) rfl ?_))⟩
  refine br_f (by decide) ⟨pk_in 2 90 (by omega), nm_e (nm_r (e' := nI 3) rfl (nm_r (e' := nI 0) rfl ?_))⟩
  refine br_f (by decide) ⟨pk_in 3 90 (by omega), nm_e (nm_r (e' := nI 4) rfl (nm_r (e' := -1) rfl ?_))⟩
  refine br_t (by decide) ⟨3 - p + p + 1 + 1, ?_⟩
  have h8 : ∀ k, k < 4 → upd (upd (upd (upd a8 0 3) 1 (nI 2)) 2 (nI 1)) 3 (nI 0) k = nI (3 - k) := by
    intro k hk
    rcases (show k = 0 ∨ k = 1 ∨ k = 2 ∨ k = 3 by omega) with rfl | rfl | rfl | rfl
    · rfl
    · rfl
    · rfl
    · rfl
  have g := ty_s59_pre (post := post) (fm := fm) (fp := fp) (fa := nI 0) (fc := nI 0) (fw := nI 84) (fs := nI 0) (a1 := a1) (a2 := a2) (a3 := a3) (a4 := a4) (a5 := a5) (a6 := a6) (a7 := a7) (a8 := upd (upd (upd (upd a8 0 3) 1 (nI 2)) 2 (nI 1)) 3 (nI 0)) (a9 := a9) (a10 := a10) (a11 := a11)
    hmm hm hp h8 rfl h0 h1 h2 l0 l1 l2 (fun q hq => A q (by omega) (by omega)) (fun gd b12 b13 => E _ _ _ _ _ _ _ _ _ (fun _ _ _ _ _ _ => ty_s59_rest hmm hm h8 rfl k0 k1 k2 j0 j1 j2 (fun _ _ _ => H _ _ _ _ _ _ _ _) (3 - p) (by omega) (fun q q1 q2 => B q (by omega) (by omega)) _ _ _)) p (by omega) fd a12 a13
  rw [show 3 - p + p + 1 = 4 by omega] at g
  rw [show 3 - p + p + 1 + 1 = 4 + 1 by omega]
  exact g
theorem ty_step {post : Int32 → St2 → Prop} {m p na nc r0 r1 r2 s0 s1 s2 : Nat} {e6 : Nat → Int32} (hmm : fm = nI m) (hm : m ≤ 1000) (hp : p < 4) (h0 : a6 0 = nI r0) (h1 : a6 1 = nI r1) (h2 : a6 2 = nI r2) (l0 : r0 < 1000) (l1 : r1 < 1000) (l2 : r2 < 1000)
    (k0 : e6 0 = nI s0) (k1 : e6 1 = nI s1) (k2 : e6 2 = nI s2) (j0 : s0 < 1000) (j1 : s1 < 1000) (j2 : s2 < 1000) (A : ty_alike a3 p r0 r1 r2) (B : ty_alike a3 p s0 s1 s2)
    (E : ty_ev fm fp a1 a2 a3 a4 a5 a6 a7 p na nc e6)
    (H : ∀ (gl gc gw gs gd : Int32) (b8 b9 b10 b11 b12 b13 : Nat → Int32), post (nI na) (fm, fp, gl, nI na, gc, gw, gs, gd, a1, a2, a3, a4, a5, e6, a7, b8, b9, b10, b11, b12, b13)) : wpX_step post (fm, fp, fl, fa, fc, fw, fs, fd, a1, a2, a3, a4, a5, a6, a7, a8, a9, a10, a11, a12, a13) := by
  unfold wpX_step
  exact ty_stepAll hmm hm hp h0 h1 h2 l0 l1 l2 k0 k1 k2 j0 j1 j2 A B E (fun _ _ _ _ _ _ _ _ => H _ _ _ _ _ _ _ _ _ _ _)
/-- trying: the stepping on copies of the roots, which come back -/
theorem ty_conflicts {post : Int32 → St2 → Prop} {m p na nc r0 r1 r2 s0 s1 s2 : Nat} (G : (Nat → Int32) → Nat → Int32) (hmm : fm = nI m) (hm : m ≤ 1000) (hp : p < 4) (h0 : a6 0 = nI r0) (h1 : a6 1 = nI r1) (h2 : a6 2 = nI r2) (l0 : r0 < 1000) (l1 : r1 < 1000) (l2 : r2 < 1000)
    (j0 : s0 < 1000) (j1 : s1 < 1000) (j2 : s2 < 1000) (A : ty_alike a3 p r0 r1 r2) (B : ty_alike a3 p s0 s1 s2)
    (E : ∀ b6 : Nat → Int32, b6 0 = nI r0 → b6 1 = nI r1 → b6 2 = nI r2 → ty_ev fm fp a1 a2 a3 a4 a5 b6 a7 p na nc (G b6) ∧ G b6 0 = nI s0 ∧ G b6 1 = nI s1 ∧ G b6 2 = nI s2 ∧ G b6 6 = b6 6 ∧ G b6 7 = b6 7 ∧ G b6 8 = b6 8)
    (H : ∀ (gl ga gw gs gd : Int32) (b6 b8 b9 b10 b11 b12 b13 : Nat → Int32), b6 0 = nI r0 → b6 1 = nI r1 → b6 2 = nI r2 → post (nI nc) (fm, fp, gl, ga, nI nc, gw, gs, gd, a1, a2, a3, a4, a5, b6, a7, b8, b9, b10, b11, b12, b13)) : wpX_conflicts post (fm, fp, fl, fa, fc, fw, fs, fd, a1, a2, a3, a4, a5, a6, a7, a8, a9, a10, a11, a12, a13) := by
  obtain ⟨E1, E2, E3, E4, E5, E6, E7⟩ := E (upd (upd (upd a6 6 (nI r0)) 7 (nI r1)) 8 (nI r2)) h0 h1 h2
  unfold wpX_conflicts
  refine ⟨4, ?_⟩
  refine br_f (by decide) ⟨pk_in 0 9 (by omega), pk_in 6 9 (by omega), nm_r (e' := upd a6 6 (nI r0)) (by rw [← h0]; rfl) (nm_r (e' := nI 1) rfl ?_)⟩
  refine br_f (by decide) ⟨pk_in 1 9 (by omega), pk_in 7 9 (by omega), nm_r (e' := upd (upd a6 6 (nI r0)) 7 (nI r1)) (by rw [← h1]; rfl) (nm_r (e' := nI 2) rfl ?_)⟩
  refine br_f (by decide) ⟨pk_in 2 9 (by omega), pk_in 8 9 (by omega), nm_r (e' := upd (upd (upd a6 6 (nI r0)) 7 (nI r1)) 8 (nI r2)) (by rw [← h2]; rfl) (nm_r (e' := nI 3) rfl ?_)⟩
  refine br_t (by decide) ?_
  refine ty_stepAll hmm hm hp h0 h1 h2 l0 l1 l2 E2 E3 E4 j0 j1 j2 A B E1 (fun gl gd b8 b9 b10 b11 b12 b13 => ⟨4, ?_⟩)
  refine br_f (by decide) ⟨pk_in 6 9 (by omega), pk_in 0 9 (by omega), nm_e (nm_r (e' := nI 1) rfl ?_)⟩
  refine br_f (by decide) ⟨pk_in 7 9 (by omega), pk_in 1 9 (by omega), nm_e (nm_r (e' := nI 2) rfl ?_)⟩
  refine br_f (by decide) ⟨pk_in 8 9 (by omega), pk_in 2 9 (by omega), nm_e (nm_r (e' := nI 3) rfl ?_)⟩
  refine br_t (by decide) (H _ _ _ _ _ _ _ _ _ _ _ _ ?_ ?_ ?_)
  · exact E5
  · exact E6
  · exact E7
theorem ty_prefer {post : Int32 → St2 → Prop} {s : Nat} (hs : s < 2) (H : post 0 (fm, nI s, fl, fa, fc, fw, fs, fd, a1, a2, a3, a4, a5, a6, a7, a8, a9, a10, a11, a12, a13)) : wpX_prefer post (fm, fp, fl, fa, fc, fw, fs, fd, a1, a2, a3, a4, a5, a6, a7, a8, a9, a10, a11, a12, a13) (nI s) :=
  br_f (ty_m1 (by omega)) (ty_badSide hs (br_t rfl H))
theorem ty_number {post : Int32 → St2 → Prop} {s p r c : Nat} {x : Int32} (hs : s < 2) (hp : p < 4) (hr : a6 s = nI r) (hr' : r < 1000) (F : ty_fold a1 a2 a3 r p (nI c)) (hc : c < 1000) (hk : a1 c = 1) (hx : a2 c = x)
    (H : ∀ (gd : Int32) (b12 b13 : Nat → Int32), post x (fm, fp, fl, fa, fc, fw, fs, gd, a1, a2, a3, a4, a5, a6, a7, a8, a9, a10, a11, b12, b13)) : wpX_number post (fm, fp, fl, fa, fc, fw, fs, fd, a1, a2, a3, a4, a5, a6, a7, a8, a9, a10, a11, a12, a13) (nI s) (nI p) := by
  have e := ty_fold_at F hp
  rw [if_pos rfl] at e
  unfold wpX_number
  refine ty_badSide hs (br_t rfl (ty_badPath (by omega) (br_t rfl (ty_bt1 (by omega) hp hr hr' e (fun gd b12 b13 => ⟨vp_in_nI (by omega) (by omega), br_t ?_ ⟨vp_in_nI (by omega) (by omega), ?_⟩⟩)))))
  · rw [nI_clamp (by omega)]
    exact hk
  · rw [nI_clamp (by omega), hx]
    exact H gd b12 b13
theorem ty_lastKind {post : Int32 → St2 → Prop} {p r c : Nat} {k : Int32} (hp : p < 4) (hr : a6 2 = nI r) (hr' : r < 1000) (F : ty_fold a1 a2 a3 r p (nI c)) (hc : c < 1000) (hk : a1 c = k)
    (H : ∀ (gd : Int32) (b12 b13 : Nat → Int32), post k (fm, fp, fl, fa, fc, fw, fs, gd, a1, a2, a3, a4, a5, a6, a7, a8, a9, a10, a11, b12, b13)) : wpX_lastKind post (fm, fp, fl, fa, fc, fw, fs, fd, a1, a2, a3, a4, a5, a6, a7, a8, a9, a10, a11, a12, a13) (nI p) := by
  have e := ty_fold_at F hp
  rw [if_pos rfl] at e
  unfold wpX_lastKind
  refine ty_badPath (by omega) (br_t rfl (ty_at1 (t := 2) (by omega) hp hr hr' e (fun gd b12 b13 => ⟨vp_in_nI (by omega) (by omega), ?_⟩)))
  rw [nI_clamp (by omega), hk]
  exact H gd b12 b13
end
end
section
section
variable {fm fp fl fa fc fw fs fd : Int32} {a1 a2 a3 a4 a5 a6 a7 a8 a9 a10 a11 a12 a13 : Nat → Int32}
/-- a tree with one file (or nothing) at p: what stands at each of the 84 paths -/
theorem ty_tree {post : Int32 → St2 → Prop} {t i p r g : Nat} (ht : t < 9) (hi : i < 84) (hp : p < 4) (hr : a6 t = nI r) (hr' : r < 1000) (F : ty_fold a1 a2 a3 r p (nI g)) (hg : g < 1000) (Z : ∀ n, n < 4 → a3 n = nI 0) (Zg : ∀ n, n < 4 → a3 (4 * g + n) = nI 0)
    (H : ∀ (gd : Int32) (b12 b13 : Nat → Int32), post (nI (if i = p then g else 0)) (fm, fp, fl, fa, fc, fw, fs, gd, a1, a2, a3, a4, a5, a6, a7, a8, a9, a10, a11, b12, b13)) : wpX_contentAt_2 post (fm, fp, fl, fa, fc, fw, fs, fd, a1, a2, a3, a4, a5, a6, a7, a8, a9, a10, a11, a12, a13) (nI t) (nI i) := by
  have top : ∀ q, q < 4 → a3 (4 * r + q) = nI (if q = p then g else 0) := by
    intro q hq
    rw [ty_fold_at F hq]
    by_cases e : p = q
    · rw [if_pos e, if_pos e.symm]
    · rw [if_neg e, if_neg (fun z => e z.symm)]
      rfl
  have low : ∀ q n, n < 4 → a3 (4 * (if q = p then g else 0) + n) = nI 0 := by
    intro q n hn
    by_cases e : q = p
    · rw [if_pos e]
      exact Zg n hn
    · rw [if_neg e, show 4 * 0 + n = n by omega]
      exact Z n hn
  have sm : ∀ q, (if q = p then g else 0) < 1000 := by
    intro q
    split <;> omega
  by_cases h1 : i < 4
  · exact ty_bt1 ht h1 hr hr' (top i h1) H
  · rw [if_neg (show ¬ i = p by omega)] at H
    by_cases h2 : i < 20
    · exact ty_bt2 (q := (i - 4) / 4) (n := (i - 4) % 4) ht (by omega) (by omega) (by omega) hr hr' (top _ (by omega)) (sm _) (low _ _ (by omega)) H
    · exact ty_bt3 (q := (i - 20) / 16) (s := (i - 20) / 4 % 4) (n := (i - 20) % 4) ht (by omega) (by omega) (by omega) (by omega) hr hr' (top _ (by omega)) (sm _) (low _ _ (by omega)) (by omega) (by rw [show 4 * 0 + (i - 20) % 4 = (i - 20) % 4 by omega]; exact Z _ (by omega)) H
theorem ty_changed {post : Int32 → St2 → Prop} {p r0 r2 c : Nat} (hp : p < 4) (h0 : a6 0 = nI r0) (h2 : a6 2 = nI r2) (l0 : r0 < 1000) (l2 : r2 < 1000) (F0 : ty_fold a1 a2 a3 r0 p (nI c)) (F2 : ty_fold a1 a2 a3 r2 p (nI 0)) (hc : c < 1000) (hc0 : c ≠ 0) (hk : a1 c = 1) (Z : ∀ n, n < 4 → a3 n = nI 0) (Zc : ∀ n, n < 4 → a3 (4 * c + n) = nI 0)
    (H : ∀ (gd : Int32) (b12 b13 : Nat → Int32), post (nI 1) (fm, fp, fl, fa, fc, fw, fs, gd, a1, a2, a3, a4, a5, a6, a7, a8, a9, a10, a11, b12, b13)) : wpX_changed post (fm, fp, fl, fa, fc, fw, fs, fd, a1, a2, a3, a4, a5, a6, a7, a8, a9, a10, a11, a12, a13) (nI 0) := by
  have Z0 : ∀ n, n < 4 → a3 (4 * 0 + n) = nI 0 := by
    intro n hn
    rw [show 4 * 0 + n = n by omega]
    exact Z n hn
  have key : ∃ n, wX_changed_15 post (nI 0) n (nI (if 0 ≤ p then 0 else 1)) (nI 0) fm fp fl fa fc fw fs fd a1 a2 a3 a4 a5 a6 a7 a8 a9 a10 a11 a12 a13 := by
    refine pk_loop (σ := Int32 × (Nat → Int32) × (Nat → Int32)) (fun n i s => wX_changed_15 post (nI 0) n (nI (if i ≤ p then 0 else 1)) (nI i) fm fp fl fa fc fw fs (s.1) a1 a2 a3 a4 a5 a6 a7 a8 a9 a10 a11 (s.2.1) (s.2.2)) (fun _ _ => True) 84 0 (fd, a12, a13) (by omega) trivial ?_ ?_
    · intro n s _
      refine pk_le 84 84 (fun _ => ?_) (fun z => absurd z (by omega))
      rw [if_neg (show ¬ 84 ≤ p by omega)]
      exact H _ _ _
    · intro n i s hi _ hw
      refine pk_le 84 i (fun z => absurd z (by omega)) (fun _ => ty_tree (t := 0) (by omega) hi hp h0 l0 F0 hc Z Zc (fun _ _ _ => ty_tree (t := 2) (by omega) hi hp h2 l2 F2 (by omega) Z Z0 (fun gd b12 b13 => ?_)))
      have hw' := hw (gd, b12, b13) trivial
      by_cases e : i = p
      · rw [if_neg (show ¬ i + 1 ≤ p by omega)] at hw'
        rw [if_pos e, if_pos e, if_pos (show i ≤ p by omega)]
        refine br_f ?_ ⟨vp_in_nI (by omega) (by omega), br_f ?_ (br_f (by decide) (nm_r (e' := nI 1) rfl (nm_r (nI_1 i) hw')))⟩
        · rw [nI_eq (by omega) (by omega)]
          exact hc0
        · rw [nI_clamp (by omega), hk]
          decide
      · rw [show (if i + 1 ≤ p then 0 else 1) = (if i ≤ p then 0 else 1) by split <;> split <;> omega] at hw'
        rw [if_neg e, if_neg e]
        exact br_t rfl (br_t rfl (nm_r (nI_1 i) hw'))
  rw [if_pos (show 0 ≤ p by omega)] at key
  unfold wpX_changed
  exact ty_badSide (s := 0) (by omega) (br_t rfl key)
end
end
section
section
variable {a1 a2 a3 : Nat → Int32}
theorem ty_fold_0 {f p : Nat} (h : ty_is a1 a2 a3 f 2 0 0 0 0 0) : ty_fold a1 a2 a3 f p (nI 0) := by
  obtain ⟨h1, h2, h3, h4, h5, h6⟩ := h
  unfold ty_fold
  rw [nI_0, ite_self, ite_self, ite_self, ite_self]
  exact ⟨h1, h2, h3, h4, h5, h6⟩
theorem ty_fold_ne {f p : Nat} {c d : Int32} (hp : p < 4) (h : ty_fold a1 a2 a3 f p c) (hcd : c ≠ d) : ¬ ty_fold a1 a2 a3 f p d := by
  intro g
  have e1 := ty_fold_at h hp
  have e2 := ty_fold_at g hp
  rw [if_pos rfl] at e1 e2
  exact hcd (e1.symm.trans e2)
theorem ty_is_kind {f : Nat} {k x a b d e k' x' a' b' d' e' : Int32} (h : ty_is a1 a2 a3 f k x a b d e) (hk : k ≠ k') : ¬ ty_is a1 a2 a3 f k' x' a' b' d' e' := fun g => hk (h.1.symm.trans g.1)
theorem ty_is_num {f : Nat} {k x a b d e k' x' a' b' d' e' : Int32} (h : ty_is a1 a2 a3 f k x a b d e) (hk : x ≠ x') : ¬ ty_is a1 a2 a3 f k' x' a' b' d' e' := fun g => hk (h.2.1.symm.trans g.2.1)
theorem ty_z4 {f : Nat} {k x : Int32} (h : ty_is a1 a2 a3 f k x 0 0 0 0) : ∀ n, n < 4 → a3 (4 * f + n) = nI 0 := by
  intro n hn
  rcases (show n = 0 ∨ n = 1 ∨ n = 2 ∨ n = 3 by omega) with rfl | rfl | rfl | rfl
  · exact h.2.2.1
  · exact h.2.2.2.1
  · exact h.2.2.2.2.1
  · exact h.2.2.2.2.2
theorem ty_z0 {k x : Int32} (h : ty_is a1 a2 a3 0 k x 0 0 0 0) : ∀ n, n < 4 → a3 n = nI 0 := by
  intro n hn
  have e := ty_z4 h n hn
  rw [show 4 * 0 + n = n by omega] at e
  exact e
end
theorem ty_lawOf (x y z : Int32) : wpL_lawOf (fun r _ => r = 1) 14 9598 () x y z := by
  obtain ⟨p, hp, ep⟩ := pk_andE z (m := 3) 2 (by decide)
  obtain ⟨s, hs, es⟩ := pk_andE (z >>> ((2 : Int32) &&& 31)) (m := 1) 1 (by decide)
  have hp : p < 4 := hp
  have hs : s < 2 := hs
  refine ⟨by omega, by omega, 13, 9577, by omega, by omega, ?_⟩
  refine ty_init (by omega) (by omega) (fun b1 b2 b3 b4 b6 H2 I0 I1 R => nm_r ep (nm_r es ?_))
  refine ty_write_n (m := 2) (s := 0) (r := 1) H2 (by omega) rfl (by omega) hp (R 0 (by omega)) (by omega) (ty_fold_0 I1) I0.1 ?_ ?_ (fun gd c1 c2 c3 c4 c12 c13 H4 K I2 I3 => ?_)
  · intro c d1 d2
    rw [show c = 1 by omega]
    exact ty_is_kind I1 (by decide)
  · intro c d1 d2
    rw [show c = 1 by omega]
    exact ty_fold_ne hp (ty_fold_0 I1) (by decide)
  have J0 := ty_is_tr (K 0 (by omega)) I0
  have J1 := ty_is_tr (K 1 (by omega)) I1
  have G1 : ty_fold c1 c2 c3 1 p (nI 0) := ty_fold_0 J1
  by_cases hxy : x = y
  · subst hxy
    refine ty_write_f (m := 4) (s := 1) (r := 1) (c := 2) (f := 3) H4 (by omega) rfl (by omega) hp (R 1 (by omega)) (by omega) G1 J0.1 (by omega) (by omega) I2 (by omega) (by omega) I3 (fun _ _ _ => ?_)
    have X2 : upd (upd b6 0 (nI 3)) 1 (nI 3) 2 = nI 1 := R 2 (by omega)
    refine ty_conflicts (m := 4) (p := p) (na := 0) (nc := 0) (r0 := 3) (r1 := 3) (r2 := 1) (s0 := 3) (s1 := 3) (s2 := 3) (fun b => upd b 2 (nI 3)) rfl (by omega) hp rfl rfl X2 (by omega) (by omega) (by omega) (by omega) (by omega) (by omega) (ty_alike_fold I3 I3 G1) (ty_alike_fold I3 I3 I3) (fun b q0 q1 q2 => ⟨?_, q0, q1, rfl, rfl, rfl, rfl⟩) (fun _ _ _ _ _ d6 _ _ _ _ _ _ q0 q1 q2 => ?_)
    · exact ty_ev_set H4 hp q0 q1 q2 (by omega) (by omega) (by omega) I3 I3 G1 (by omega) (by omega) (by omega) (by omega) (by omega) I3
    refine ty_changed (c := 2) hp q0 q2 (by omega) (by omega) I3 G1 (by omega) (by omega) I2.1 (ty_z0 J0) (ty_z4 I2) (fun _ _ _ => ?_)
    refine ty_step (m := 4) (p := p) (na := 0) (nc := 0) (r0 := 3) (r1 := 3) (r2 := 1) (s0 := 3) (s1 := 3) (s2 := 3) (e6 := upd d6 2 (nI 3)) rfl (by omega) hp q0 q1 q2 (by omega) (by omega) (by omega) q0 q1 rfl (by omega) (by omega) (by omega) (ty_alike_fold I3 I3 G1) (ty_alike_fold I3 I3 I3) ?_ (fun _ _ _ _ _ _ _ _ _ _ _ => ?_)
    · exact ty_ev_set H4 hp q0 q1 q2 (by omega) (by omega) (by omega) I3 I3 G1 (by omega) (by omega) (by omega) (by omega) (by omega) I3
    refine ty_prefer hs ?_
    refine ty_step (m := 4) (p := p) (na := 0) (nc := 0) (r0 := 3) (r1 := 3) (r2 := 3) (s0 := 3) (s1 := 3) (s2 := 3) (e6 := upd d6 2 (nI 3)) rfl (by omega) hp q0 q1 rfl (by omega) (by omega) (by omega) q0 q1 rfl (by omega) (by omega) (by omega) (ty_alike_fold I3 I3 I3) (ty_alike_fold I3 I3 I3) ?_ (fun _ _ _ _ _ _ _ _ _ _ _ => ?_)
    · exact ty_ev_eq hp q0 q1 rfl (by omega) (by omega) (by omega) I3 I3 I3
    refine ty_number (s := 0) (r := 3) (c := 2) (x := x) (by omega) hp q0 (by omega) I3 (by omega) I2.1 I2.2.1 (fun _ _ _ => ?_)
    refine ty_number (s := 1) (r := 3) (c := 2) (x := x) (by omega) hp q1 (by omega) I3 (by omega) I2.1 I2.2.1 (fun _ _ _ => ?_)
    refine ty_lastKind (r := 3) (c := 2) (k := 1) hp rfl (by omega) I3 (by omega) I2.1 (fun _ _ _ => ?_)
    refine br_t rfl (br_f (by decide) (br_t rfl (br_t rfl (br_t rfl (br_f (by decide) (br_t rfl (br_c (fun _ => ?_) (fun _ => ?_))))))))
    · exact br_t rfl (br_t rfl (br_t rfl rfl))
    · exact br_t rfl (br_t rfl (br_t rfl rfl))
  · refine ty_write_n (m := 4) (s := 1) (r := 1) H4 (by omega) rfl (by omega) hp (R 1 (by omega)) (by omega) G1 J0.1 ?_ ?_ (fun _ d1 d2 d3 d4 _ _ H6 L I4 I5 => ?_)
    · intro c e1 e2
      rcases (show c = 1 ∨ c = 2 ∨ c = 3 by omega) with rfl | rfl | rfl
      · exact ty_is_kind J1 (by decide)
      · exact ty_is_num I2 hxy
      · exact ty_is_kind I3 (by decide)
    · intro c e1 e2
      rcases (show c = 1 ∨ c = 2 ∨ c = 3 by omega) with rfl | rfl | rfl
      · exact ty_fold_ne hp G1 (by decide)
      · exact ty_is_kind I2 (by decide)
      · exact ty_fold_ne hp I3 (by decide)
    have M0 := ty_is_tr (L 0 (by omega)) J0
    have M2 := ty_is_tr (L 2 (by omega)) I2
    have M3 : ty_fold d1 d2 d3 3 p (nI 2) := ty_is_tr (L 3 (by omega)) I3
    have M1 : ty_fold d1 d2 d3 1 p (nI 0) := ty_fold_0 (ty_is_tr (L 1 (by omega)) J1)
    have hk2 : ¬ d1 2 = 2 := by
      rw [M2.1]
      decide
    have X2 : upd (upd b6 0 (nI 3)) 1 (nI 5) 2 = nI 1 := R 2 (by omega)
    refine ty_conflicts (m := 6) (p := p) (na := 0) (nc := 1) (r0 := 3) (r1 := 5) (r2 := 1) (s0 := 3) (s1 := 5) (s2 := 1) (fun b => b) rfl (by omega) hp rfl rfl X2 (by omega) (by omega) (by omega) (by omega) (by omega) (by omega) (ty_alike_fold M3 I5 M1) (ty_alike_fold M3 I5 M1) (fun b q0 q1 q2 => ⟨?_, q0, q1, q2, rfl, rfl, rfl⟩) (fun _ _ _ _ _ d6 _ _ _ _ _ _ q0 q1 q2 => ?_)
    · exact ty_ev_conf H6 hp q0 q1 q2 (by omega) (by omega) (by omega) M3 I5 M1 (by omega) (by omega) (by omega) (by omega) (by omega) (by omega) hk2 rfl
    refine ty_changed (c := 2) hp q0 q2 (by omega) (by omega) M3 M1 (by omega) (by omega) M2.1 (ty_z0 M0) (ty_z4 M2) (fun _ _ _ => ?_)
    refine ty_step (m := 6) (p := p) (na := 0) (nc := 1) (r0 := 3) (r1 := 5) (r2 := 1) (s0 := 3) (s1 := 5) (s2 := 1) (e6 := d6) rfl (by omega) hp q0 q1 q2 (by omega) (by omega) (by omega) q0 q1 q2 (by omega) (by omega) (by omega) (ty_alike_fold M3 I5 M1) (ty_alike_fold M3 I5 M1) ?_ (fun _ _ _ _ _ _ _ _ _ _ _ => ?_)
    · exact ty_ev_conf H6 hp q0 q1 q2 (by omega) (by omega) (by omega) M3 I5 M1 (by omega) (by omega) (by omega) (by omega) (by omega) (by omega) hk2 rfl
    refine ty_prefer hs ?_
    rcases (show s = 0 ∨ s = 1 by omega) with rfl | rfl
    · refine ty_step (m := 6) (p := p) (na := 1) (nc := 1) (r0 := 3) (r1 := 5) (r2 := 1) (s0 := 3) (s1 := 3) (s2 := 3) (e6 := upd (upd d6 1 (nI 3)) 2 (nI 3)) rfl (by omega) hp q0 q1 q2 (by omega) (by omega) (by omega) q0 rfl rfl (by omega) (by omega) (by omega) (ty_alike_fold M3 I5 M1) (ty_alike_fold M3 M3 M3) ?_ (fun _ _ _ _ _ _ _ _ _ _ _ => ?_)
      · exact ty_ev_pref0 H6 hp q0 q1 q2 (by omega) (by omega) (by omega) M3 I5 M1 (by omega) (by omega) (by omega) (by omega) (by omega) (by omega) hk2 (by omega) rfl
      refine ty_number (s := 0) (r := 3) (c := 2) (x := x) (by omega) hp q0 (by omega) M3 (by omega) M2.1 M2.2.1 (fun _ _ _ => ?_)
      refine ty_number (s := 1) (r := 3) (c := 2) (x := x) (by omega) hp rfl (by omega) M3 (by omega) M2.1 M2.2.1 (fun _ _ _ => ?_)
      refine ty_lastKind (r := 3) (c := 2) (k := 1) hp rfl (by omega) M3 (by omega) M2.1 (fun _ _ _ => ?_)
      exact br_f hxy (br_t rfl (br_t rfl (br_t rfl (br_t rfl (br_t rfl (br_t rfl (br_t rfl (br_t rfl (br_t rfl (br_t rfl rfl))))))))))
    · refine ty_step (m := 6) (p := p) (na := 1) (nc := 1) (r0 := 3) (r1 := 5) (r2 := 1) (s0 := 5) (s1 := 5) (s2 := 5) (e6 := upd (upd d6 0 (nI 5)) 2 (nI 5)) rfl (by omega) hp q0 q1 q2 (by omega) (by omega) (by omega) rfl q1 rfl (by omega) (by omega) (by omega) (ty_alike_fold M3 I5 M1) (ty_alike_fold I5 I5 I5) ?_ (fun _ _ _ _ _ _ _ _ _ _ _ => ?_)
      · exact ty_ev_pref1 H6 hp q0 q1 q2 (by omega) (by omega) (by omega) M3 I5 M1 (by omega) (by omega) (by omega) (by omega) (by omega) (by omega) hk2 (by omega) rfl
      refine ty_number (s := 0) (r := 5) (c := 4) (x := y) (by omega) hp rfl (by omega) I5 (by omega) I4.1 I4.2.1 (fun _ _ _ => ?_)
      refine ty_number (s := 1) (r := 5) (c := 4) (x := y) (by omega) hp q1 (by omega) I5 (by omega) I4.1 I4.2.1 (fun _ _ _ => ?_)
      refine ty_lastKind (r := 5) (c := 4) (k := 1) hp rfl (by omega) I5 (by omega) I4.1 (fun _ _ _ => ?_)
      exact br_f hxy (br_t rfl (br_t rfl (br_t rfl (br_t rfl (br_t rfl (br_t rfl (br_f (by decide) (br_t rfl (br_t rfl (br_t rfl rfl))))))))))
theorem ty_cell {post : Int32 → Prop} {L k : Nat} {xs : Nat → Int32} (hL : L ≤ 3) (hk : k < 3) (h : ∀ v, post v) : wpL_cellAt post L xs () (nI k) :=
  pk_le L k (fun _ => h _) (fun z => ⟨vp_in_nI z (by omega), h _⟩)
theorem i_vc (xs : Nat → Int32) (L : Nat) (hL : L ≤ 3) : wpL_law (fun r => r = 1) L xs := by
  unfold wpL_law
  exact ty_cell (k := 0) hL (by omega) (fun x => ty_cell (k := 1) hL (by omega) (fun y => ty_cell (k := 2) hL (by omega) (fun z => ⟨14, 9598, by omega, by omega, ty_lawOf x y z⟩)))
end
