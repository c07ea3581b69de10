section
theorem pk_us {f : Nat → Int32} {k : Nat} {x : Int32} : upd f k x k = x := if_pos rfl
theorem pk_un {f : Nat → Int32} {k j : Nat} {x : Int32} (h : j ≠ k) : upd f k x j = f j := if_neg h
theorem pk_mul (a b : Nat) : nI a * nI b = nI (a * b) := (Int32.ofNat_mul a b).symm
theorem pk_tn {n : Nat} (h : n < 2 ^ 32) : (nI n).toBitVec.toNat = n := Nat.mod_eq_of_lt h
theorem pk_and (x : Int32) {m : Int32} (k : Nat) (hm : m.toBitVec.toNat = 2 ^ k - 1) : x &&& m = nI (x.toBitVec.toNat % 2 ^ k) := by
  apply Int32.toBitVec_inj.mp
  apply BitVec.eq_of_toNat_eq
  rw [Int32.toBitVec_and, BitVec.toNat_and, hm, Nat.and_two_pow_sub_one_eq_mod]
  show _ = (BitVec.ofNat 32 _).toNat
  rw [BitVec.toNat_ofNat]
  exact (Nat.mod_eq_of_lt (Nat.lt_of_le_of_lt (Nat.mod_le _ _) x.toBitVec.isLt)).symm
theorem pk_andN {n : Nat} (h : n < 2 ^ 32) {m : Int32} (k : Nat) (hm : m.toBitVec.toNat = 2 ^ k - 1) : nI n &&& m = nI (n % 2 ^ k) := by
  rw [pk_and _ k hm, pk_tn h]
theorem pk_shr (a s : Int32) (k : Nat) (hs : (s.toBitVec.smod 32).toNat = k) : (a >>> s).toInt = a.toInt >>> k := by
  show (a.toBitVec.sshiftRight (s.toBitVec.smod 32).toNat).toInt = _
  rw [hs, BitVec.toInt_sshiftRight]
  rfl
theorem pk_shrN {n : Nat} (h : n < 2 ^ 31) (s : Int32) (k : Nat) (hs : (s.toBitVec.smod 32).toNat = k) : nI n >>> s = nI (n / 2 ^ k) := by
  apply Int32.toInt_inj.mp
  have h2 : n / 2 ^ k ≤ n := Nat.div_le_self _ _
  rw [pk_shr _ _ k hs, nI_toInt h, nI_toInt (by omega), Int.shiftRight_eq_div_pow]
  rfl
theorem zc_8 (a b : Nat) : (8 : Int32) * nI a + nI b = nI (8 * a + b) := by
  rw [show (8 : Int32) = nI 8 from rfl, pk_mul, nI_add]
theorem zc_16 (a b : Nat) : (16 : Int32) * nI a + nI b = nI (16 * a + b) := by
  rw [show (16 : Int32) = nI 16 from rfl, pk_mul, nI_add]
theorem zc_in {a b : Nat} (ha : a < 14) (hb : b < 8) : vp_in ((8 : Int32) * nI a + nI b) 112 := by
  rw [zc_8]; exact vp_in_nI (by omega) (by omega)
theorem zc_cl {a b : Nat} (ha : a < 14) (hb : b < 8) : ((8 : Int32) * nI a + nI b).toNatClampNeg = 8 * a + b := by
  rw [zc_8]; exact nI_clamp (by omega)
theorem zc_in6 {a b : Nat} (ha : a < 6) (hb : b < 16) : vp_in ((16 : Int32) * nI a + nI b) 96 := by
  rw [zc_16]; exact vp_in_nI (by omega) (by omega)
theorem zc_cl6 {a b : Nat} (ha : a < 6) (hb : b < 16) : ((16 : Int32) * nI a + nI b).toNatClampNeg = 16 * a + b := by
  rw [zc_16]; exact nI_clamp (by omega)
theorem zc_b0 : vp_nar .boolean 0 = 0 := rfl
theorem zc_b1 : vp_nar .boolean 1 = 1 := rfl
theorem zc_b {x : Int32} (h : x = 0 ∨ x = 1) : vp_nar .boolean x = x := by
  rcases h with h | h
  · rw [h]; exact zc_b0
  · rw [h]; exact zc_b1
/-- what the header's byte tells: size and guard -/
theorem zc_hdr : ∀ s, s < 17 → (nI s + 0) &&& 31 = nI s ∧ (nI s + 32) &&& 31 = nI s ∧ (nI s + 0) &&& 32 = 0 ∧ ¬ (nI s + 32) &&& 32 = 0 := by decide +kernel
/-- the code out of its two bytes -/
theorem zc_code {n : Nat} (h : n ≤ 9999) : (nI n &&& 255) + 256 * (nI n >>> ((8 : Int32) &&& 31)) = nI n := by
  rw [pk_andN (by omega) 8 (by decide), pk_shrN (by omega) _ 8 (by decide), show (256 : Int32) = nI 256 from rfl, pk_mul, nI_add]
  have e : n % 2 ^ 8 + 256 * (n / 2 ^ 8) = n := by omega
  rw [e]
/-- page and index of a file's byte -/
theorem zc_pg {f o : Nat} (ho : o < 16) : (2 : Int32) * nI f + (nI o >>> ((3 : Int32) &&& 31)) = nI (2 * f + o / 8) := by
  rw [pk_shrN (by omega) _ 3 (by decide), show (2 : Int32) = nI 2 from rfl, pk_mul, nI_add]
theorem zc_px {o : Nat} (ho : o < 16) : nI o &&& 7 = nI (o % 8) := pk_andN (by omega) 3 (by decide)
end
section
/-! the log over home, the staged pages over both -/
/-- entries lo .. m-1 of the log over home show the content L; every entry below m holds L's bytes -/
def zc_LG (lo m : Nat) (H P B L : Nat → Int32) : Prop :=
  (∀ k, k < m → ∃ p, p < 14 ∧ P k = nI p ∧ ∀ i, i < 8 → B (8 * k + i) = L (8 * p + i)) ∧
  (∀ p, p < 14 → (∀ k, lo ≤ k → k < m → P k ≠ nI p) → ∀ i, i < 8 → H (8 * p + i) = L (8 * p + i))
/-- the staged pages over L show V -/
def zc_ST (S T L V : Nat → Int32) : Prop :=
  ∀ p, p < 14 → ∀ i, i < 8 → (S p = 0 → V (8 * p + i) = L (8 * p + i)) ∧ (¬ S p = 0 → V (8 * p + i) = T (8 * p + i))
theorem zc_LG_lo {lo m : Nat} {H P B L : Nat → Int32} (g : zc_LG lo m H P B L) : zc_LG 0 m H P B L :=
  ⟨g.1, fun p hp hn => g.2 p hp (fun k _ hk => hn k (Nat.zero_le k) hk)⟩
theorem zc_LG_0 {H P B : Nat → Int32} : zc_LG 0 0 H P B H :=
  ⟨fun k hk => absurd hk (Nat.not_lt_zero k), fun _ _ _ _ _ => rfl⟩
theorem zc_LG_all {m : Nat} {H P B L : Nat → Int32} (g : zc_LG m m H P B L) : ∀ j, j < 112 → H j = L j := by
  intro j hj
  have h := g.2 (j / 8) (by omega) (fun k h1 h2 => by omega) (j % 8) (by omega)
  have e : 8 * (j / 8) + j % 8 = j := by omega
  rw [e] at h
  exact h
theorem zc_ST_no {S T L : Nat → Int32} (h : ∀ p, p < 14 → S p = 0) : zc_ST S T L L :=
  fun p hp _ _ => ⟨fun _ => rfl, fun z => absurd (h p hp) z⟩
theorem zc_ST_eq {S T L V : Nat → Int32} (s : zc_ST S T L V) (h : ∀ p, p < 14 → S p = 0) : ∀ j, j < 112 → V j = L j := by
  intro j hj
  have h := (s (j / 8) (by omega) (j % 8) (by omega)).1 (h _ (by omega))
  have e : 8 * (j / 8) + j % 8 = j := by omega
  rw [e] at h
  exact h
theorem zc_ST_upd {S T L V : Nat → Int32} (s : zc_ST S T L V) {k : Nat} (p j : Nat) (e : k = 8 * p + j) (hj : j < 8) (hS : ¬ S p = 0) (x : Int32) : zc_ST S (upd T k x) L (upd V k x) := by
  intro q hq i hi
  subst e
  by_cases c : 8 * q + i = 8 * p + j
  · have c2 : q = p := by omega
    refine ⟨fun z => absurd (c2 ▸ z) hS, fun _ => ?_⟩
    rw [c, pk_us, pk_us]
  · rw [pk_un c, pk_un c]
    exact s q hq i hi
section
variable {fm ft fv fi : Int32} {H P B S T L V : Nat → Int32} {m : Nat}
theorem zc_ba {post : Int32 → Prop} {p i : Nat} (hm : m ≤ 14) (g : zc_LG 0 m H P B L) (hp : p < 14) (hi : i < 8) (h : post (L (8 * p + i))) :
    ∀ d k, k + d = m → (∀ j, j < k → P j ≠ nI p) → wX_byteAt_23 post (nI p) (nI i) (nI m) ft fv fi H P B S T (d + 1) (nI k) := by
  intro d
  induction d with
  | zero =>
    intro k hk hn
    refine br_t (nI_le (by omega) (by omega)) ⟨zc_in hp hi, ?_⟩
    rw [zc_cl hp hi, g.2 p hp (fun j _ hj => hn j (by omega)) i hi]
    exact h
  | succ d ih =>
    intro k hk hn
    refine br_f (nI_ge (by omega) (by omega)) ⟨vp_in_nI (by omega) (by omega), ?_⟩
    rw [nI_clamp (by omega)]
    by_cases e : P k = nI p
    · refine br_t e ⟨zc_in (by omega) hi, ?_⟩
      rw [zc_cl (by omega) hi]
      obtain ⟨q, hq, e2, h2⟩ := g.1 k (by omega)
      have e3 : q = p := (nI_eq (by omega) (by omega)).mp (e2.symm.trans e)
      rw [h2 i hi, e3]
      exact h
    · refine br_f e (nm_r (nI_1 k) (ih (k + 1) (by omega) ?_))
      intro j hj
      by_cases c : j = k
      · rw [c]; exact e
      · exact hn j (by omega)
theorem zc_byteAt0 {post : Int32 → Prop} {p i : Nat} (hm : m ≤ 14) (g : zc_LG 0 m H P B L) (hp : p < 14) (hi : i < 8) (hS : S p = 0) (h : post (L (8 * p + i))) :
    wpX_byteAt post (nI m, ft, fv, fi, H, P, B, S, T) (nI p) (nI i) := by
  refine And.intro (vp_in_nI hp (by omega)) ?_
  rw [nI_clamp (by omega)]
  exact br_t hS ⟨m + 1, zc_ba hm g hp hi h m 0 (by omega) (fun j hj => absurd hj (Nat.not_lt_zero j))⟩
theorem zc_byteAt {post : Int32 → Prop} {p i : Nat} (hm : m ≤ 14) (g : zc_LG 0 m H P B L) (s : zc_ST S T L V) (hp : p < 14) (hi : i < 8) (h : post (V (8 * p + i))) :
    wpX_byteAt post (nI m, ft, fv, fi, H, P, B, S, T) (nI p) (nI i) := by
  by_cases e : S p = 0
  · rw [(s p hp i hi).1 e] at h
    exact zc_byteAt0 hm g hp hi e h
  · rw [(s p hp i hi).2 e] at h
    refine And.intro (vp_in_nI hp (by omega)) ?_
    rw [nI_clamp (by omega)]
    refine br_f e ⟨zc_in hp hi, ?_⟩
    rw [zc_cl hp hi]
    exact h
theorem zc_st {post : SX → Prop} {p : Nat} {T0 : Nat → Int32} (hm : m ≤ 14) (g : zc_LG 0 m H P B L) (hp : p < 14) (hS : S p = 0)
    (h : ∀ T, (∀ q, q < 14 → q ≠ p → ∀ i, i < 8 → T (8 * q + i) = T0 (8 * q + i)) → (∀ i, i < 8 → T (8 * p + i) = L (8 * p + i)) → post (nI m, ft, fv, fi, H, P, B, upd S p 1, T)) :
    ∀ d k T, k + d = 8 → (∀ q, q < 14 → q ≠ p → ∀ i, i < 8 → T (8 * q + i) = T0 (8 * q + i)) → (∀ i, i < k → T (8 * p + i) = L (8 * p + i)) → wX_stage_12 post (nI p) (nI m) ft fv fi (d + 1) (nI k) H P B S T := by
  intro d
  induction d with
  | zero =>
    intro k T hk h1 h2
    refine br_t (nI_le (a := 8) (by omega) (by omega)) ⟨vp_in_nI hp (by omega), ?_⟩
    rw [nI_clamp (by omega), zc_b1]
    exact nm_e (h T h1 (fun i hi => h2 i (by omega)))
  | succ d ih =>
    intro k T hk h1 h2
    refine br_f (nI_ge (b := 8) (by omega) (by omega)) (zc_byteAt0 hm g hp (by omega) hS ⟨zc_in hp (by omega), ?_⟩)
    rw [zc_cl hp (by omega)]
    refine nm_e (nm_r (nI_1 k) (ih (k + 1) _ (by omega) ?_ ?_))
    · intro q hq hn i hi
      rw [pk_un (by omega)]
      exact h1 q hq hn i hi
    · intro i hi
      by_cases c : i = k
      · rw [c, pk_us]
      · rw [pk_un (by omega)]
        exact h2 i (by omega)
theorem zc_stage {post : SX → Prop} {p : Nat} (hm : m ≤ 14) (g : zc_LG 0 m H P B L) (s : zc_ST S T L V) (hp : p < 14)
    (h : ∀ S' T', zc_ST S' T' L V → ¬ S' p = 0 → post (nI m, ft, fv, fi, H, P, B, S', T')) :
    wpX_stage post (nI m, ft, fv, fi, H, P, B, S, T) (nI p) := by
  refine And.intro (vp_in_nI hp (by omega)) ?_
  rw [nI_clamp (by omega)]
  by_cases e : S p = 0
  · refine br_t e ⟨9, zc_st (T0 := T) hm g hp e ?_ 8 0 T rfl (fun _ _ _ _ _ => rfl) (fun i hi => absurd hi (Nat.not_lt_zero i))⟩
    intro T' h1 h2
    refine h _ T' ?_ (by rw [pk_us]; decide)
    intro q hq i hi
    by_cases c : q = p
    · rw [c, pk_us]
      exact ⟨fun z => absurd z (by decide), fun _ => by rw [h2 i hi]; exact (s p hp i hi).1 e⟩
    · rw [pk_un c, h1 q hq c i hi]
      exact s q hq i hi
  · exact br_f e (h S T s e)
end
end
section
/-! bringing home, unstaging, writing the log, the start -/
section
variable {fm ft fv fi : Int32} {H P B S T L V : Nat → Int32} {m : Nat}
theorem zc_bh {post : SX → Prop} {k p : Nat} {H0 : Nat → Int32} (hk : k < 14) (hp : p < 14) (e : P k = nI p)
    (h : ∀ H, (∀ q, q < 14 → q ≠ p → ∀ i, i < 8 → H (8 * q + i) = H0 (8 * q + i)) → (∀ i, i < 8 → H (8 * p + i) = B (8 * k + i)) → post (fm, ft, fv, fi, H, P, B, S, T)) :
    ∀ d j H, j + d = 8 → (∀ q, q < 14 → q ≠ p → ∀ i, i < 8 → H (8 * q + i) = H0 (8 * q + i)) → (∀ i, i < j → H (8 * p + i) = B (8 * k + i)) → wX_bringHome_2 post (nI k) fm ft fv fi (d + 1) (nI j) H P B S T := by
  intro d
  induction d with
  | zero =>
    intro j H hj h1 h2
    exact br_t (nI_le (a := 8) (by omega) (by omega)) (h H h1 (fun i hi => h2 i (by omega)))
  | succ d ih =>
    intro j H hj h1 h2
    refine br_f (nI_ge (b := 8) (by omega) (by omega)) ⟨vp_in_nI hk (by omega), zc_in hk (by omega), ?_⟩
    rw [nI_clamp (by omega), e, zc_cl hp (by omega), zc_cl hk (by omega)]
    refine ⟨zc_in hp (by omega), nm_e (nm_r (nI_1 j) (ih (j + 1) _ (by omega) ?_ ?_))⟩
    · intro q hq hn i hi
      rw [pk_un (by omega)]
      exact h1 q hq hn i hi
    · intro i hi
      by_cases c : i = j
      · rw [c, pk_us]
      · rw [pk_un (by omega)]
        exact h2 i (by omega)
theorem zc_bringHome {post : SX → Prop} {k : Nat} (hk : k < m) (hm : m ≤ 14) (g : zc_LG k m H P B L)
    (h : ∀ H', zc_LG (k + 1) m H' P B L → post (nI m, ft, fv, fi, H', P, B, S, T)) :
    wpX_bringHome post (nI m, ft, fv, fi, H, P, B, S, T) (nI k) := by
  obtain ⟨p, hp, e, hB⟩ := g.1 k hk
  refine Exists.intro 9 (zc_bh (H0 := H) (by omega) hp e ?_ 8 0 H rfl (fun _ _ _ _ _ => rfl) (fun i hi => absurd hi (Nat.not_lt_zero i)))
  intro H' h1 h2
  refine h H' ⟨g.1, ?_⟩
  intro q hq hn i hi
  by_cases c : q = p
  · rw [c, h2 i hi, hB i hi]
  · rw [h1 q hq c i hi]
    refine g.2 q hq ?_ i hi
    intro j hj hj2
    by_cases c2 : j = k
    · rw [c2, e]
      exact fun z => c ((nI_eq (by omega) (by omega)).mp z).symm
    · exact hn j (by omega) hj2
theorem zc_bah {post : SX → Prop} (hm : m ≤ 14)
    (h : ∀ H', (∀ j, j < 112 → H' j = L j) → post (0, ft, fv, fi, H', P, B, S, T)) :
    ∀ d k H, k + d = m → zc_LG k m H P B L → wX_bringAllHome_2 post (d + 1) (nI k) (nI m) ft fv fi H P B S T := by
  intro d
  induction d with
  | zero =>
    intro k H hk g
    have e : k = m := by omega
    subst e
    exact br_t (nI_le (by omega) (by omega)) (h H (zc_LG_all g))
  | succ d ih =>
    intro k H hk g
    refine br_f (nI_ge (by omega) (by omega)) (zc_bringHome (by omega) hm g ?_)
    intro H' g'
    exact nm_r (nI_1 k) (ih (k + 1) H' (by omega) g')
theorem zc_bringAllHome {post : SX → Prop} (hm : m ≤ 14) (g : zc_LG 0 m H P B L)
    (h : ∀ H', (∀ j, j < 112 → H' j = L j) → post (0, ft, fv, fi, H', P, B, S, T)) :
    wpX_bringAllHome post (nI m, ft, fv, fi, H, P, B, S, T) :=
  Exists.intro (m + 1) (zc_bah hm h m 0 H (by omega) g)
theorem zc_un {post : SX → Prop} (h : ∀ S', (∀ p, p < 14 → S' p = 0) → post (fm, ft, fv, fi, H, P, B, S', T)) :
    ∀ d k S, k + d = 14 → (∀ p, p < k → S p = 0) → wX_unstage_2 post fm ft fv fi (d + 1) (nI k) H P B S T := by
  intro d
  induction d with
  | zero =>
    intro k S hk hS
    exact br_t (nI_le (a := 14) (by omega) (by omega)) (h S (fun p hp => hS p (by omega)))
  | succ d ih =>
    intro k S hk hS
    refine br_f (nI_ge (b := 14) (by omega) (by omega)) ⟨vp_in_nI (by omega) (by omega), ?_⟩
    rw [nI_clamp (by omega), zc_b0]
    refine nm_e (nm_r (nI_1 k) (ih (k + 1) _ (by omega) ?_))
    intro p hp
    by_cases c : p = k
    · rw [c, pk_us]
    · rw [pk_un c]
      exact hS p (by omega)
theorem zc_unstage {post : SX → Prop} (h : ∀ S', (∀ p, p < 14 → S' p = 0) → post (fm, ft, fv, fi, H, P, B, S', T)) :
    wpX_unstage post (fm, ft, fv, fi, H, P, B, S, T) :=
  Exists.intro 15 (zc_un h 14 0 S rfl (fun p hp => absurd hp (Nat.not_lt_zero p)))
theorem zc_w32 {post : SX → Prop} {J : Int32 → Int32 → (Nat → Int32) → (Nat → Int32) → (Nat → Int32) → (Nat → Int32) → (Nat → Int32) → Prop} {n q : Nat} {B0 : Nat → Int32} (hn : n < 14) (hq : q < 14)
    (h : ∀ B, (∀ k, k ≠ n → ∀ i, i < 8 → B (8 * k + i) = B0 (8 * k + i)) → (∀ i, i < 8 → B (8 * n + i) = T (8 * q + i)) → J (nI (n + 1)) (nI (q + 1)) H P B S T) :
    ∀ d j B, j + d = 8 → (∀ k, k ≠ n → ∀ i, i < 8 → B (8 * k + i) = B0 (8 * k + i)) → (∀ i, i < j → B (8 * n + i) = T (8 * q + i)) → wX_writeLog_32 post J (nI n) (nI q) fm ft fv fi (d + 1) (nI j) H P B S T := by
  intro d
  induction d with
  | zero =>
    intro j B hj h1 h2
    exact br_t (nI_le (a := 8) (by omega) (by omega)) (nm_r (nI_1 n) (nm_r (nI_1 q) (h B h1 (fun i hi => h2 i (by omega)))))
  | succ d ih =>
    intro j B hj h1 h2
    refine br_f (nI_ge (b := 8) (by omega) (by omega)) ⟨zc_in hq (by omega), zc_in hn (by omega), ?_⟩
    rw [zc_cl hn (by omega), zc_cl hq (by omega)]
    refine nm_e (nm_r (nI_1 j) (ih (j + 1) _ (by omega) ?_ ?_))
    · intro k hk i hi
      rw [pk_un (by omega)]
      exact h1 k hk i hi
    · intro i hi
      by_cases c : i = j
      · rw [c, pk_us]
      · rw [pk_un (by omega)]
        exact h2 i (by omega)
/-- n entries hold the staged pages below q -/
def zc_WL (n q : Nat) (P B S T : Nat → Int32) : Prop :=
  (∀ k, k < n → ∃ p, p < q ∧ ¬ S p = 0 ∧ P k = nI p ∧ ∀ i, i < 8 → B (8 * k + i) = T (8 * p + i)) ∧
  (∀ p, p < q → ¬ S p = 0 → ∃ k, k < n ∧ P k = nI p)
theorem zc_w8 {post : SX → Prop}
    (h : ∀ n P B S', n ≤ 14 → zc_WL n 14 P B S T → (∀ p, p < 14 → S' p = 0) → post (nI n, ft, fv, fi, H, P, B, S', T)) :
    ∀ d q n P B, q + d = 14 → n ≤ q → zc_WL n q P B S T → wX_writeLog_8 post fm ft fv fi (d + 1) (nI n) (nI q) H P B S T := by
  intro d
  induction d with
  | zero =>
    intro q n P B hq hn w
    have e : q = 14 := by omega
    subst e
    exact br_t (nI_le (a := 14) (by omega) (by omega)) (zc_unstage (fun S' hS => h n P B S' hn w hS))
  | succ d ih =>
    intro q n P B hq hn w
    refine br_f (nI_ge (b := 14) (by omega) (by omega)) ⟨vp_in_nI (by omega) (by omega), ?_⟩
    rw [nI_clamp (by omega)]
    by_cases e : S q = 0
    · refine br_t e (nm_r (nI_1 q) (ih (q + 1) n P B (by omega) (by omega) ⟨?_, ?_⟩))
      · intro k hk
        obtain ⟨p, hp, r⟩ := w.1 k hk
        exact ⟨p, by omega, r⟩
      · intro p hp hS
        by_cases c : p = q
        · rw [c] at hS; exact absurd e hS
        · exact w.2 p (by omega) hS
    · refine br_f e ⟨vp_in_nI (by omega) (by omega), ?_⟩
      rw [nI_clamp (by omega)]
      refine nm_e ⟨9, zc_w32 (B0 := B) (by omega) (by omega) ?_ 8 0 B rfl (fun _ _ _ _ => rfl) (fun i hi => absurd hi (Nat.not_lt_zero i))⟩
      intro B' h1 h2
      refine ih (q + 1) (n + 1) _ B' (by omega) (by omega) ⟨?_, ?_⟩
      · intro k hk
        by_cases c : k = n
        · refine ⟨q, by omega, e, ?_, ?_⟩
          · rw [c, pk_us]
          · rw [c]; exact h2
        · obtain ⟨p, hp, r1, r2, r3⟩ := w.1 k (by omega)
          refine ⟨p, by omega, r1, ?_, ?_⟩
          · rw [pk_un c]; exact r2
          · intro i hi
            rw [h1 k c i hi]; exact r3 i hi
      · intro p hp hS
        by_cases c : p = q
        · exact ⟨n, by omega, by rw [pk_us, c]⟩
        · obtain ⟨k, hk, r⟩ := w.2 p (by omega) hS
          exact ⟨k, by omega, by rw [pk_un (by omega)]; exact r⟩
theorem zc_writeLog {post : SX → Prop} (hm : m ≤ 14) (g : zc_LG 0 m H P B L) (s : zc_ST S T L V)
    (h : ∀ n H' P' B' S', n ≤ 14 → (∀ j, j < 112 → H' j = L j) → zc_LG 0 n H' P' B' V → (∀ p, p < 14 → S' p = 0) → post (nI n, ft, fv, fi, H', P', B', S', T)) :
    wpX_writeLog post (nI m, ft, fv, fi, H, P, B, S, T) := by
  refine zc_bringAllHome (L := L) hm g ?_
  intro H' hH
  refine Exists.intro 15 (zc_w8 (S := S) ?_ 14 0 0 P B rfl (by omega) ⟨fun k hk => absurd hk (Nat.not_lt_zero k), fun p hp => absurd hp (Nat.not_lt_zero p)⟩)
  intro n P' B' S' hn w hS
  refine h n H' P' B' S' hn hH ⟨?_, ?_⟩ hS
  · intro k hk
    obtain ⟨p, hp, r1, r2, r3⟩ := w.1 k hk
    exact ⟨p, hp, r2, fun i hi => by rw [r3 i hi]; exact ((s p hp i hi).2 r1).symm⟩
  · intro p hp hn2 i hi
    by_cases c : S p = 0
    · rw [(s p hp i hi).1 c]
      exact hH _ (by omega)
    · obtain ⟨k, hk, r⟩ := w.2 p hp c
      exact absurd r (hn2 k (Nat.zero_le k) hk)
theorem zc_start {post : SX → Prop} (hm : m ≤ 14) (g : zc_LG 0 m H P B L)
    (h : ∀ H' S', (∀ j, j < 112 → H' j = L j) → (∀ p, p < 14 → S' p = 0) → post (0, ft, 0, 0, H', P, B, S', T)) :
    wpX_start post (nI m, ft, fv, fi, H, P, B, S, T) := by
  refine zc_bringAllHome (L := L) hm g ?_
  intro H' hH
  exact zc_unstage (fun S' hS => h H' S' hH hS)
theorem zc_t11 {post : SX → Prop} (x : Int32) (hm : m ≤ 14)
    (h : ∀ H' S', (∀ j, j < 112 → H' j = L j) → (∀ p, p < 14 → S' p = 0) → post (0, ft, 0, 0, H', P, B, S', T)) :
    ∀ d k H, k + d = m → zc_LG k m H P B L → wX_torn_11 post x (d + 1) (nI k) (nI m) ft fv fi H P B S T := by
  intro d
  induction d with
  | zero =>
    intro k H hk g
    exact br_t (nI_le (by omega) (by omega)) (zc_start (L := L) hm (zc_LG_lo g) h)
  | succ d ih =>
    intro k H hk g
    refine br_f (nI_ge (by omega) (by omega)) (br_c (fun _ => zc_start (L := L) hm (zc_LG_lo g) h) (fun _ => zc_bringHome (by omega) hm g ?_))
    intro H' g'
    exact nm_r (nI_1 k) (ih (k + 1) H' (by omega) g')
end
end
section
/-! the reference's loops -/
section
variable {c ft fv fo fc oc : Int32} {Z G A N OZ OG OA : Nat → Int32}
theorem zc_k40 {post : SY → Prop} (h : ∀ O, (∀ i, i < 96 → O i = A i) → post (c, ft, fv, fo, 1, c, Z, G, A, N, OZ, OG, O)) :
    ∀ d k O, k + d = 96 → (∀ i, i < k → O i = A i) → wY_keep_40 post c ft fv fo fc oc (d + 1) (nI k) Z G A N OZ OG O := by
  intro d
  induction d with
  | zero =>
    intro k O hk h1
    exact br_t (nI_le (a := 96) (by omega) (by omega)) (h O (fun i hi => h1 i (by omega)))
  | succ d ih =>
    intro k O hk h1
    refine br_f (nI_ge (b := 96) (by omega) (by omega)) ⟨vp_in_nI (by omega) (by omega), vp_in_nI (by omega) (by omega), ?_⟩
    rw [nI_clamp (by omega)]
    refine nm_e (nm_r (nI_1 k) (ih (k + 1) _ (by omega) ?_))
    intro i hi
    by_cases e : i = k
    · rw [e, pk_us]
    · rw [pk_un e]
      exact h1 i (by omega)
theorem zc_k2 {post : SY → Prop} (hG : ∀ f, f < 6 → G f = 0 ∨ G f = 1) (h : ∀ OZ OG O, (∀ f, f < 6 → OZ f = Z f ∧ OG f = G f) → (∀ i, i < 96 → O i = A i) → post (c, ft, fv, fo, 1, c, Z, G, A, N, OZ, OG, O)) :
    ∀ d k OZ OG, k + d = 6 → (∀ f, f < k → OZ f = Z f ∧ OG f = G f) → wY_keep_2 post c ft fv fo fc oc (d + 1) (nI k) Z G A N OZ OG OA := by
  intro d
  induction d with
  | zero =>
    intro k OZ OG hk h1
    exact br_t (nI_le (a := 6) (by omega) (by omega)) ⟨97, zc_k40 (fun O hO => h OZ OG O (fun f hf => h1 f (by omega)) hO) 96 0 OA rfl (fun i hi => absurd hi (Nat.not_lt_zero i))⟩
  | succ d ih =>
    intro k OZ OG hk h1
    refine br_f (nI_ge (b := 6) (by omega) (by omega)) ⟨vp_in_nI (by omega) (by omega), vp_in_nI (by omega) (by omega), ?_⟩
    rw [nI_clamp (by omega)]
    refine nm_e ⟨vp_in_nI (by omega) (by omega), vp_in_nI (by omega) (by omega), ?_⟩
    rw [zc_b (hG k (by omega))]
    refine nm_e (nm_r (nI_1 k) (ih (k + 1) _ _ (by omega) ?_))
    intro f hf
    by_cases e : f = k
    · rw [e, pk_us, pk_us]
      exact ⟨rfl, rfl⟩
    · rw [pk_un e, pk_un e]
      exact h1 f (by omega)
theorem zc_keep {post : SY → Prop} (hG : ∀ f, f < 6 → G f = 0 ∨ G f = 1) (h : ∀ OZ OG O, (∀ f, f < 6 → OZ f = Z f ∧ OG f = G f) → (∀ i, i < 96 → O i = A i) → post (c, ft, fv, fo, 1, c, Z, G, A, N, OZ, OG, O)) :
    wpY_keep post (c, ft, fv, fo, fc, oc, Z, G, A, N, OZ, OG, OA) :=
  Exists.intro 7 (zc_k2 hG h 6 0 OZ OG rfl (fun f hf => absurd hf (Nat.not_lt_zero f)))
theorem zc_c62 {post : Int32 → SY → Prop} {f : Nat} (hf : f < 6) (h : ∀ A', (∀ i, i < 96 → A' i = if 16 * f ≤ i ∧ i < 16 * f + 16 then 0 else A i) → post 0 (c, ft, fv, fo, fc, oc, Z, G, A', N, OZ, OG, OA)) :
    ∀ d k A', k + d = 16 → (∀ i, i < 96 → A' i = if 16 * f ≤ i ∧ i < 16 * f + k then 0 else A i) → wY_create_62 post (nI f) c ft fv fo fc oc (d + 1) (nI k) Z G A' N OZ OG OA := by
  intro d
  induction d with
  | zero =>
    intro k A' hk h1
    have e : k = 16 := by omega
    subst e
    exact br_t (nI_le (a := 16) (by omega) (by omega)) (h A' h1)
  | succ d ih =>
    intro k A' hk h1
    refine br_f (nI_ge (b := 16) (by omega) (by omega)) ⟨zc_in6 hf (by omega), ?_⟩
    rw [zc_cl6 hf (by omega)]
    refine nm_e (nm_r (nI_1 k) (ih (k + 1) _ (by omega) ?_))
    intro i hi
    by_cases e : i = 16 * f + k
    · rw [e, pk_us, if_pos (by omega)]
    · rw [pk_un e, h1 i hi]
      by_cases e2 : 16 * f ≤ i ∧ i < 16 * f + k
      · rw [if_pos e2, if_pos (by omega)]
      · rw [if_neg e2, if_neg (by omega)]
theorem zc_b17 {post : Int32 → SY → Prop} (h : ∀ N', (∀ i, i < 96 → N' i = A i) → post 0 (c, ft, fv, fo, fc, oc, Z, G, A, N', OZ, OG, OA)) :
    ∀ d k N, k + d = 96 → (∀ i, i < k → N i = A i) → wY_begin_17 post c ft fv fo fc oc (d + 1) (nI k) Z G A N OZ OG OA := by
  intro d
  induction d with
  | zero =>
    intro k N hk h1
    exact br_t (nI_le (a := 96) (by omega) (by omega)) (h N (fun i hi => h1 i (by omega)))
  | succ d ih =>
    intro k N hk h1
    refine br_f (nI_ge (b := 96) (by omega) (by omega)) ⟨vp_in_nI (by omega) (by omega), vp_in_nI (by omega) (by omega), ?_⟩
    rw [nI_clamp (by omega)]
    refine nm_e (nm_r (nI_1 k) (ih (k + 1) _ (by omega) ?_))
    intro i hi
    by_cases e : i = k
    · rw [e, pk_us]
    · rw [pk_un e]
      exact h1 i (by omega)
theorem zc_c16 {post : Int32 → SY → Prop} (h : ∀ A', (∀ i, i < 96 → A' i = N i) → post 0 (c, ft, fv, 0, fc, oc, Z, G, A', N, OZ, OG, OA)) :
    ∀ d k A, k + d = 96 → (∀ i, i < k → A i = N i) → wY_commit_16 post c ft fv fo fc oc (d + 1) (nI k) Z G A N OZ OG OA := by
  intro d
  induction d with
  | zero =>
    intro k A hk h1
    exact br_t (nI_le (a := 96) (by omega) (by omega)) (h A (fun i hi => h1 i (by omega)))
  | succ d ih =>
    intro k A hk h1
    refine br_f (nI_ge (b := 96) (by omega) (by omega)) ⟨vp_in_nI (by omega) (by omega), vp_in_nI (by omega) (by omega), ?_⟩
    rw [nI_clamp (by omega)]
    refine nm_e (nm_r (nI_1 k) (ih (k + 1) _ (by omega) ?_))
    intro i hi
    by_cases e : i = k
    · rw [e, pk_us]
    · rw [pk_un e]
      exact h1 i (by omega)
theorem zc_y83 {post : SY → Prop} (h : post (c, ft, 0, 0, 0, oc, Z, G, A, N, OZ, OG, OA)) : wY_torn_83 post c ft fv fo fc oc Z G A N OZ OG OA := h
theorem zc_y51 {post : SY → Prop} (h : ∀ A', (∀ i, i < 96 → A' i = OA i) → post (oc, ft, 0, 0, 0, oc, Z, G, A', N, OZ, OG, OA)) :
    ∀ d k A, k + d = 96 → (∀ i, i < k → A i = OA i) → wY_torn_51 post c ft fv fo fc oc (d + 1) (nI k) Z G A N OZ OG OA := by
  intro d
  induction d with
  | zero =>
    intro k A hk h1
    exact br_t (nI_le (a := 96) (by omega) (by omega)) (zc_y83 (h A (fun i hi => h1 i (by omega))))
  | succ d ih =>
    intro k A hk h1
    refine br_f (nI_ge (b := 96) (by omega) (by omega)) ⟨vp_in_nI (by omega) (by omega), vp_in_nI (by omega) (by omega), ?_⟩
    rw [nI_clamp (by omega)]
    refine nm_e (nm_r (nI_1 k) (ih (k + 1) _ (by omega) ?_))
    intro i hi
    by_cases e : i = k
    · rw [e, pk_us]
    · rw [pk_un e]
      exact h1 i (by omega)
theorem zc_y13 {post : SY → Prop} (hG : ∀ f, f < 6 → OG f = 0 ∨ OG f = 1) (h : ∀ Z G A', (∀ f, f < 6 → Z f = OZ f ∧ G f = OG f) → (∀ i, i < 96 → A' i = OA i) → post (oc, ft, 0, 0, 0, oc, Z, G, A', N, OZ, OG, OA)) :
    ∀ d k Z G, k + d = 6 → (∀ f, f < k → Z f = OZ f ∧ G f = OG f) → wY_torn_13 post c ft fv fo fc oc (d + 1) (nI k) Z G A N OZ OG OA := by
  intro d
  induction d with
  | zero =>
    intro k Z G hk h1
    exact br_t (nI_le (a := 6) (by omega) (by omega)) ⟨97, zc_y51 (fun A' hA => h Z G A' (fun f hf => h1 f (by omega)) hA) 96 0 A rfl (fun i hi => absurd hi (Nat.not_lt_zero i))⟩
  | succ d ih =>
    intro k Z G hk h1
    refine br_f (nI_ge (b := 6) (by omega) (by omega)) ⟨vp_in_nI (by omega) (by omega), vp_in_nI (by omega) (by omega), ?_⟩
    rw [nI_clamp (by omega)]
    refine nm_e ⟨vp_in_nI (by omega) (by omega), vp_in_nI (by omega) (by omega), ?_⟩
    rw [zc_b (hG k (by omega))]
    refine nm_e (nm_r (nI_1 k) (ih (k + 1) _ _ (by omega) ?_))
    intro f hf
    by_cases e : f = k
    · rw [e, pk_us, pk_us]
      exact ⟨rfl, rfl⟩
    · rw [pk_un e, pk_un e]
      exact h1 f (by omega)
end
end
section
/-! the relation -/
/-- the pages' content L is that of the files (sizes Z, guards G, bytes A) and of the code c -/
def zc_EN (c : Int32) (Z G A L : Nat → Int32) : Prop :=
  (∀ i, i < 96 → L i = A i) ∧ (∀ f, f < 6 → L (96 + f) = Z f + (if G f = 0 then 0 else 32)) ∧ L 104 = c &&& 255 ∧ L 105 = c >>> ((8 : Int32) &&& 31)
/-- ranges; a file that is not there holds zeros -/
def zc_WF (c : Int32) (Z G A : Nat → Int32) : Prop :=
  (∃ n, n ≤ 9999 ∧ c = nI n) ∧ (∀ f, f < 6 → ∃ s, s ≤ 16 ∧ Z f = nI s) ∧ (∀ f, f < 6 → G f = 0 ∨ G f = 1) ∧ (∀ f, f < 6 → Z f = 0 → ∀ i, i < 16 → A (16 * f + i) = 0)
theorem zc_EN_c {c : Int32} {Z G A L Z' G' A' L' : Nat → Int32} (e : zc_EN c Z G A L) (hZ : ∀ f, f < 6 → Z' f = Z f ∧ G' f = G f) (hA : ∀ i, i < 96 → A' i = A i) (hL : ∀ j, j < 112 → L' j = L j) : zc_EN c Z' G' A' L' := by
  refine ⟨?_, ?_, ?_, ?_⟩
  · intro i hi
    rw [hL i (by omega), hA i hi]; exact e.1 i hi
  · intro f hf
    rw [hL _ (by omega), (hZ f hf).1, (hZ f hf).2]; exact e.2.1 f hf
  · rw [hL _ (by omega)]; exact e.2.2.1
  · rw [hL _ (by omega)]; exact e.2.2.2
theorem zc_WF_c {c : Int32} {Z G A Z' G' A' : Nat → Int32} (w : zc_WF c Z G A) (hZ : ∀ f, f < 6 → Z' f = Z f ∧ G' f = G f) (hA : ∀ i, i < 96 → A' i = A i) : zc_WF c Z' G' A' := by
  refine ⟨w.1, ?_, ?_, ?_⟩
  · intro f hf
    rw [(hZ f hf).1]; exact w.2.1 f hf
  · intro f hf
    rw [(hZ f hf).2]; exact w.2.2.1 f hf
  · intro f hf hz i hi
    rw [(hZ f hf).1] at hz
    rw [hA _ (by omega)]; exact w.2.2.2 f hf hz i hi
theorem zc_EN_u {c : Int32} {Z G A L : Nat → Int32} (e : zc_EN c Z G A L) {j : Nat} (hj : j < 96) (x : Int32) : zc_EN c Z G (upd A j x) (upd L j x) := by
  refine ⟨?_, ?_, ?_, ?_⟩
  · intro i hi
    by_cases q : i = j
    · rw [q, pk_us, pk_us]
    · rw [pk_un q, pk_un q]; exact e.1 i hi
  · intro f hf
    rw [pk_un (by omega)]; exact e.2.1 f hf
  · rw [pk_un (by omega)]; exact e.2.2.1
  · rw [pk_un (by omega)]; exact e.2.2.2
theorem zc_WF_u {c : Int32} {Z G A : Nat → Int32} (w : zc_WF c Z G A) {f o : Nat} (ho : o < 16) (hz : ¬ Z f = 0) (x : Int32) : zc_WF c Z G (upd A (16 * f + o) x) := by
  refine ⟨w.1, w.2.1, w.2.2.1, ?_⟩
  intro g hg hz2 i hi
  by_cases q : g = f
  · rw [q] at hz2; exact absurd hz2 hz
  · rw [pk_un (by omega)]; exact w.2.2.2 g hg hz2 i hi
theorem zc_EN_k {c : Int32} {Z G A L : Nat → Int32} (e : zc_EN c Z G A L) (d : Int32) : zc_EN d Z G A (upd (upd L 104 (d &&& 255)) 105 (d >>> ((8 : Int32) &&& 31))) := by
  refine ⟨?_, ?_, ?_, ?_⟩
  · intro i hi
    rw [pk_un (by omega), pk_un (by omega)]; exact e.1 i hi
  · intro f hf
    rw [pk_un (by omega), pk_un (by omega)]; exact e.2.1 f hf
  · rw [pk_un (by decide), pk_us]
  · rw [pk_us]
theorem zc_WF_k {c : Int32} {Z G A : Nat → Int32} (w : zc_WF c Z G A) {n : Nat} (hn : n ≤ 9999) : zc_WF (nI n) Z G A :=
  ⟨⟨n, hn, rfl⟩, w.2.1, w.2.2.1, w.2.2.2⟩
theorem zc_EN_f {c : Int32} {Z G A L : Nat → Int32} (e : zc_EN c Z G A L) {f : Nat} (hf : f < 6) (z g : Int32) : zc_EN c (upd Z f z) (upd G f g) A (upd L (96 + f) (z + (if g = 0 then 0 else 32))) := by
  refine ⟨?_, ?_, ?_, ?_⟩
  · intro i hi
    rw [pk_un (by omega)]; exact e.1 i hi
  · intro h hh
    by_cases q : h = f
    · rw [q, pk_us, pk_us, pk_us]
    · rw [pk_un (by omega), pk_un q, pk_un q]; exact e.2.1 h hh
  · rw [pk_un (by omega)]; exact e.2.2.1
  · rw [pk_un (by omega)]; exact e.2.2.2
theorem zc_WF_f {c : Int32} {Z G A : Nat → Int32} (w : zc_WF c Z G A) {f s : Nat} {g : Int32} (hs : 1 ≤ s ∧ s ≤ 16) (hg : g = 0 ∨ g = 1) : zc_WF c (upd Z f (nI s)) (upd G f g) A := by
  refine ⟨w.1, ?_, ?_, ?_⟩
  · intro h hh
    by_cases q : h = f
    · rw [q, pk_us]; exact ⟨s, hs.2, rfl⟩
    · rw [pk_un q]; exact w.2.1 h hh
  · intro h hh
    by_cases q : h = f
    · rw [q, pk_us]; exact hg
    · rw [pk_un q]; exact w.2.2.1 h hh
  · intro h hh hz
    by_cases q : h = f
    · rw [q, pk_us] at hz; exact absurd hz (nI_ne0 (by omega) (by omega))
    · rw [pk_un q] at hz; exact w.2.2.2 h hh hz
/-- m pages of the log; L: what lasts; V: what a change under way shows -/
def zc_C (m : Nat) (fi fc c oc : Int32) (H P B S T Z G A N OZ OG OA L V : Nat → Int32) : Prop :=
  m ≤ 14 ∧ zc_LG 0 m H P B L ∧ zc_ST S T L V ∧ (zc_EN c Z G A L ∧ zc_WF c Z G A) ∧
  (fc = 0 → m = 0) ∧ (¬ fc = 0 → zc_EN oc OZ OG OA H ∧ zc_WF oc OZ OG OA) ∧
  (fi = 0 → ∀ p, p < 14 → S p = 0) ∧ (¬ fi = 0 → zc_EN c Z G N V ∧ zc_WF c Z G N)
def zc_Rel (u : SX) (v : SY) : Prop := match u, v with
  | (fm, ft, fv, fi, H, P, B, S, T), (c, gt, gv, gi, fc, oc, Z, G, A, N, OZ, OG, OA) =>
    gt = ft ∧ gv = fv ∧ gi = fi ∧ ∃ m L V, fm = nI m ∧ zc_C m fi fc c oc H P B S T Z G A N OZ OG OA L V
theorem zc_mk {ft fv fi fc c oc : Int32} {H P B S T Z G A N OZ OG OA L V : Nat → Int32} {m : Nat} (C : zc_C m fi fc c oc H P B S T Z G A N OZ OG OA L V) :
    zc_Rel (nI m, ft, fv, fi, H, P, B, S, T) (c, ft, fv, fi, fc, oc, Z, G, A, N, OZ, OG, OA) :=
  And.intro rfl (And.intro rfl (And.intro rfl ⟨m, L, V, rfl, C⟩))
theorem zc_el {Q : SX → SY → Prop} {u : SX} {v : SY}
    (h : ∀ (m : Nat) (ft fv fi fc c oc : Int32) (H P B S T Z G A N OZ OG OA L V : Nat → Int32), zc_C m fi fc c oc H P B S T Z G A N OZ OG OA L V → Q (nI m, ft, fv, fi, H, P, B, S, T) (c, ft, fv, fi, fc, oc, Z, G, A, N, OZ, OG, OA))
    (I : zc_Rel u v) : Q u v := by
  obtain ⟨fm, ft, fv, fi, H, P, B, S, T⟩ := u
  obtain ⟨c, gt, gv, gi, fc, oc, Z, G, A, N, OZ, OG, OA⟩ := v
  obtain ⟨e1, e2, e3, m, L, V, e4, C⟩ := I
  subst e1 e2 e3 e4
  exact h m gt gv gi fc c oc H P B S T Z G A N OZ OG OA L V C
/-- the bytes that a call sees now -/
def zc_D (fi : Int32) (A N : Nat → Int32) : Nat → Int32 := if fi = 0 then A else N
section
variable {fi fc c oc : Int32} {H P B S T Z G A N OZ OG OA L V : Nat → Int32} {m : Nat}
theorem zc_cur (C : zc_C m fi fc c oc H P B S T Z G A N OZ OG OA L V) : zc_EN c Z G (zc_D fi A N) V ∧ zc_WF c Z G (zc_D fi A N) := by
  obtain ⟨hm, g, s, e, f0, f1, o0, o1⟩ := C
  by_cases q : fi = 0
  · rw [show zc_D fi A N = A from if_pos q]
    exact ⟨zc_EN_c e.1 (fun _ _ => ⟨rfl, rfl⟩) (fun _ _ => rfl) (zc_ST_eq s (o0 q)), e.2⟩
  · rw [show zc_D fi A N = N from if_neg q]
    exact o1 q
/-- behind a written log -/
theorem zc_CW (hm : m ≤ 14) (g : zc_LG 0 m H P B L) (hS : ∀ p, p < 14 → S p = 0) (e : zc_EN c Z G A L) (w : zc_WF c Z G A) (e' : zc_EN oc OZ OG OA H) (w' : zc_WF oc OZ OG OA) :
    zc_C m 0 1 c oc H P B S T Z G A N OZ OG OA L L :=
  ⟨hm, g, zc_ST_no hS, ⟨e, w⟩, fun z => absurd z (by decide), fun _ => ⟨e', w'⟩, fun _ => hS, fun z => absurd rfl z⟩
/-- behind a start -/
theorem zc_C0 (hS : ∀ p, p < 14 → S p = 0) (e : zc_EN c Z G A H) (w : zc_WF c Z G A) :
    zc_C 0 0 0 c oc H P B S T Z G A N OZ OG OA H H :=
  ⟨by omega, zc_LG_0, zc_ST_no hS, ⟨e, w⟩, fun _ => rfl, fun z => absurd rfl z, fun _ => hS, fun z => absurd rfl z⟩
end
end
section
/-! sizes, refusals -/
section
variable {ft fv fi fc c oc : Int32} {H P B S T Z G A N OZ OG OA L V : Nat → Int32} {m : Nat}
theorem zc_hb {f : Nat} (e : zc_EN c Z G A V) (w : zc_WF c Z G A) (hf : f < 6) : V (8 * 12 + f) &&& 31 = Z f ∧ (V (8 * 12 + f) &&& 32 = 0 ↔ G f = 0) := by
  obtain ⟨s, hs, ez⟩ := w.2.1 f hf
  obtain ⟨h1, h2, h3, h4⟩ := zc_hdr s (by omega)
  have ev : V (8 * 12 + f) = Z f + (if G f = 0 then 0 else 32) := e.2.1 f hf
  rw [ev, ez]
  by_cases q : G f = 0
  · rw [if_pos q]; exact ⟨h1, fun _ => q, fun _ => h3⟩
  · rw [if_neg q]; exact ⟨h2, fun z => absurd z h4, fun z => absurd z q⟩
theorem zc_xsize {post : Int32 → Prop} (C : zc_C m fi fc c oc H P B S T Z G A N OZ OG OA L V) {f : Nat} (hf : f < 6) (h : post (Z f)) :
    wpX_size post (nI m, ft, fv, fi, H, P, B, S, T) (nI f) := by
  have K := zc_cur C
  refine br_f (nI_pos (by omega)) (br_t (nI_le (b := 5) (by omega) (by omega)) ?_)
  refine zc_byteAt (p := 12) (i := f) C.1 C.2.1 C.2.2.1 (by omega) (by omega) ?_
  show post (V (8 * 12 + f) &&& 31)
  rw [(zc_hb K.1 K.2 hf).1]
  exact h
theorem zc_ref (C : zc_C m fi fc c oc H P B S T Z G A N OZ OG OA L V) (a b : Int32) :
    ∃ r : Int32, (∀ post : Int32 → Prop, post r → wpX_refuse post (nI m, ft, fv, fi, H, P, B, S, T) a b) ∧
      (∀ post : Int32 → Prop, post r → wpY_refuse post (c, ft, fv, fi, fc, oc, Z, G, A, N, OZ, OG, OA) a b) ∧
      ((r = 0 ∧ ∃ f o : Nat, f < 6 ∧ o < 16 ∧ a = nI f ∧ b = nI o ∧ ¬ Z f = 0) ∨ (¬ r = 0 ∧ ¬ 0 ≤ r)) := by
  by_cases ha : a < 0
  · exact ⟨-1, fun _ h => br_t ha h, fun _ h => br_t ha h, Or.inr (by decide)⟩
  by_cases ha5 : 5 < a
  · exact ⟨-1, fun _ h => br_f ha (br_t ha5 h), fun _ h => br_f ha (br_t ha5 h), Or.inr (by decide)⟩
  by_cases hb : b < 0
  · exact ⟨-1, fun _ h => br_f ha (br_f ha5 (br_t hb h)), fun _ h => br_f ha (br_f ha5 (br_t hb h)), Or.inr (by decide)⟩
  obtain ⟨f, hf, ea⟩ := nI_of2 (n := 5) (M := 5) (by decide) ha (Int32.not_lt.mp ha5)
  obtain ⟨o, ho, eb⟩ := nI_of hb
  subst ea eb
  have hf6 : f < 6 := by omega
  obtain ⟨s, hs, ez⟩ := (zc_cur C).2.2.1 f hf6
  have K := zc_cur C
  have hi : vp_in (nI f) 6 := vp_in_nI hf6 (by omega)
  have hc : (nI f).toNatClampNeg = f := nI_clamp (by omega)
  by_cases hl : nI o < Z f
  · have hos : o < s := by rw [ez] at hl; exact (nI_ltI ho (by omega)).mp hl
    have hz : ¬ Z f = 0 := by rw [ez]; exact nI_ne0 (by omega) (by omega)
    have fin : ∀ r : Int32, r = 0 → ((r = 0 ∧ ∃ f' o' : Nat, f' < 6 ∧ o' < 16 ∧ nI f = nI f' ∧ nI o = nI o' ∧ ¬ Z f' = 0) ∨ (¬ r = 0 ∧ ¬ 0 ≤ r)) :=
      fun r hr => Or.inl ⟨hr, f, o, hf6, by omega, rfl, rfl, hz⟩
    have X : ∀ (post : Int32 → Prop), (∀ z : Int32, (z = 0 ↔ G f = 0) → wX_refuse_42 post z (nI m) ft fv fi H P B S T) → wpX_refuse post (nI m, ft, fv, fi, H, P, B, S, T) (nI f) (nI o) := by
      intro post hw
      refine br_f ha (br_f ha5 (br_f hb (zc_xsize C hf6 (br_t hl ?_))))
      refine zc_byteAt (p := 12) (i := f) C.1 C.2.1 C.2.2.1 (by omega) (by omega) ?_
      refine br_c (fun q => hw 0 ?_) (fun q => hw 1 ?_)
      · exact ⟨fun _ => (zc_hb K.1 K.2 hf6).2.mp q, fun _ => rfl⟩
      · exact ⟨fun z => absurd z (by decide), fun z => absurd ((zc_hb K.1 K.2 hf6).2.mpr z) q⟩
    have Y : ∀ (post : Int32 → Prop), ((G f = 0 → post 0) ∧ (¬ G f = 0 → ((fv = 0 → post (-3)) ∧ (¬ fv = 0 → post 0)))) → wpY_refuse post (c, ft, fv, fi, fc, oc, Z, G, A, N, OZ, OG, OA) (nI f) (nI o) := by
      intro post hp
      refine br_f ha (br_f ha5 (br_f hb ⟨hi, ?_⟩))
      rw [hc]
      exact br_t hl ⟨hi, hp⟩
    by_cases hg : G f = 0
    · exact ⟨0, fun post h => X post (fun z hz => br_t (hz.mpr hg) h), fun post h => Y post (br_t hg h), fin 0 rfl⟩
    · by_cases hv : fv = 0
      · exact ⟨-3, fun post h => X post (fun z hz => br_f (fun q => hg (hz.mp q)) (br_t hv h)), fun post h => Y post (br_f hg (br_t hv h)), Or.inr (by decide)⟩
      · exact ⟨0, fun post h => X post (fun z hz => br_f (fun q => hg (hz.mp q)) (br_f hv h)), fun post h => Y post (br_f hg (br_f hv h)), fin 0 rfl⟩
  · refine ⟨-1, fun post h => br_f ha (br_f ha5 (br_f hb (zc_xsize C hf6 (br_f hl h)))), fun post h => br_f ha (br_f ha5 (br_f hb ⟨hi, ?_⟩)), Or.inr (by decide)⟩
    rw [hc]
    exact br_f hl h
end
end
section
def i_Rel (_ : Nat) (u : SX) (v : SY) : Prop := zc_Rel u v
theorem i_up {k : Nat} {u : SX} {v : SY} (h : i_Rel k u v) : i_Rel (k + 4) u v := h
theorem i_vc0 : wpX_init (fun u => wpY_init (fun v => i_Rel 0 u v)) := by
  refine nm_e (nm_e ?_)
  refine zc_mk (m := 0) (zc_C0 (fun _ _ => rfl) ⟨?_, ?_, ?_, ?_⟩ ⟨⟨1234, by omega, rfl⟩, fun _ _ => ⟨0, by omega, rfl⟩, fun _ _ => Or.inl rfl, fun _ _ _ _ _ => rfl⟩)
  · intro i hi
    rw [pk_un (by omega), pk_un (by omega)]
  · intro f hf
    rw [pk_un (by omega), pk_un (by omega)]
    rfl
  · rw [pk_un (by decide), pk_us]
    decide
  · rw [pk_us]
    decide
theorem i_vc_create {k : Nat} {u : SX} {v : SY} (I : i_Rel k u v) (hk : k + 4 ≤ 2048) (v1 : Int32) (v2 : Int32) (v3 : Int32) : wpX_create (fun r u' => wpY_create (fun r' v' => r' = r ∧ i_Rel (k + 4) u' v') v v1 v2 (lw_bz v3)) u v1 v2 (lw_bz v3) := by
  refine zc_el (Q := fun u v => wpX_create (fun r u' => wpY_create (fun r' v' => r' = r ∧ i_Rel (k + 4) u' v') v v1 v2 (lw_bz v3)) u v1 v2 (lw_bz v3)) ?_ I
  intro m ft fv fi fc c oc H P B S T Z G A N OZ OG OA L V C
  generalize hb : lw_bz v3 = b
  have b01 : b = 0 ∨ b = 1 := by rw [← hb]; exact lw_bz_01 v3
  by_cases ha : v1 < 0
  · exact br_t ha (br_t ha ⟨rfl, zc_mk C⟩)
  by_cases ha5 : 5 < v1
  · exact br_f ha (br_t ha5 (br_f ha (br_t ha5 ⟨rfl, zc_mk C⟩)))
  obtain ⟨f, hf, ea⟩ := nI_of2 (n := 5) (M := 5) (by decide) ha (Int32.not_lt.mp ha5)
  subst ea
  have hf6 : f < 6 := by omega
  have hi : vp_in (nI f) 6 := vp_in_nI hf6 (by omega)
  have hc : (nI f).toNatClampNeg = f := nI_clamp (by omega)
  refine br_f ha (br_f ha5 (zc_xsize C hf6 ?_))
  have Y : ∀ (post : Int32 → SY → Prop), ((0 < Z f → post (-1) (c, ft, fv, fi, fc, oc, Z, G, A, N, OZ, OG, OA)) ∧ (¬ 0 < Z f → ((v2 < 1 → post (-1) (c, ft, fv, fi, fc, oc, Z, G, A, N, OZ, OG, OA)) ∧ (¬ v2 < 1 → ((v2 ≤ 16 → ((fi = 0 → (∀ OZ' OG' O A', (∀ g, g < 6 → OZ' g = Z g ∧ OG' g = G g) → (∀ i, i < 96 → O i = A i) → (∀ i, i < 96 → A' i = if 16 * f ≤ i ∧ i < 16 * f + 16 then 0 else A i) → post 0 (c, ft, fv, fi, 1, c, upd Z f v2, upd G f b, A', N, OZ', OG', O))) ∧ (¬ fi = 0 → post (-2) (c, ft, fv, fi, fc, oc, Z, G, A, N, OZ, OG, OA)))) ∧ (¬ v2 ≤ 16 → post (-1) (c, ft, fv, fi, fc, oc, Z, G, A, N, OZ, OG, OA))))))) →
      wpY_create post (c, ft, fv, fi, fc, oc, Z, G, A, N, OZ, OG, OA) (nI f) v2 b := by
    intro post hp
    refine br_f ha (br_f ha5 ⟨hi, ?_⟩)
    rw [hc]
    refine ⟨hp.1, fun q1 => ⟨(hp.2 q1).1, fun q2 => ⟨fun q3 => ⟨fun q4 => ?_, ((((hp.2 q1).2 q2).1) q3).2⟩, ((hp.2 q1).2 q2).2⟩⟩⟩
    refine zc_keep (zc_cur C).2.2.2.1 ?_
    intro OZ' OG' O hZ hO
    refine ⟨hi, nm_e ⟨hi, ?_⟩⟩
    rw [zc_b b01]
    refine nm_e ⟨17, zc_c62 (A := A) hf6 ?_ 16 0 A rfl (fun i _ => by rw [if_neg (by omega)])⟩
    intro A' hA
    exact (((hp.2 q1).2 q2).1 q3).1 q4 OZ' OG' O A' hZ hO hA
  by_cases q1 : 0 < Z f
  · exact br_t q1 (Y _ (br_t q1 ⟨rfl, zc_mk C⟩))
  by_cases q2 : v2 < 1
  · exact br_f q1 (br_t q2 (Y _ (br_f q1 (br_t q2 ⟨rfl, zc_mk C⟩))))
  by_cases q3 : v2 ≤ 16
  · by_cases q4 : fi = 0
    · subst q4
      obtain ⟨hm, g, s, e, f0, f1, o0, o1⟩ := C
      have eV : ∀ j, j < 112 → V j = L j := zc_ST_eq s (o0 rfl)
      obtain ⟨z, hz, ez⟩ := nI_of2 (n := 16) (M := 16) (x := v2) (by decide) (fun q => q2 (Int32.lt_trans q (by decide))) q3
      have hz1 : 1 ≤ z := by
        rw [ez] at q2
        have := nI_nlt (a := z) (b := 1)
        by_cases q : z < 1
        · exact absurd (nI_lt (b := 1) q (by omega)) q2
        · omega
      subst ez
      have eZ : Z f = 0 := by
        obtain ⟨t, ht, et⟩ := e.2.2.1 f hf6
        by_cases q : t = 0
        · rw [et, q]; rfl
        · rw [et] at q1
          exact absurd (nI_lt (a := 0) (by omega) (by omega)) q1
      have fin : ∀ w : Int32, w = (if b = 0 then 0 else 32) → ∀ S' T', zc_ST S' T' L V → ¬ S' 12 = 0 →
          wX_create_65 (fun r u' => wpY_create (fun r' v' => r' = r ∧ i_Rel (k + 4) u' v') (c, ft, fv, 0, fc, oc, Z, G, A, N, OZ, OG, OA) (nI f) (nI z) b) w (nI z) (96 + nI f) (nI m) ft fv 0 H P B S' T' := by
        intro w hw S' T' s' hS'
        have e96 : (96 : Int32) + nI f = nI (96 + f) := by rw [show (96 : Int32) = nI 96 from rfl, nI_add]
        rw [e96]
        refine And.intro (vp_in_nI (by omega) (by omega)) ?_
        rw [nI_clamp (by omega)]
        refine nm_e (zc_writeLog (V := upd V (96 + f) (nI z + w)) hm g (zc_ST_upd s' 12 f (by omega) (by omega) hS' _) ?_)
        intro n H' P' B' S'' hn hH g' hS''
        refine Y _ (br_f q1 (br_f q2 (br_t q3 (br_t rfl ?_))))
        intro OZ' OG' O A' hZ hO hA
        have hA2 : ∀ i, i < 96 → A' i = A i := by
          intro i hi
          rw [hA i hi]
          by_cases q : 16 * f ≤ i ∧ i < 16 * f + 16
          · rw [if_pos q]
            have h9 := e.2.2.2.2 f hf6 eZ (i - 16 * f) (by omega)
            rw [show 16 * f + (i - 16 * f) = i from by omega] at h9
            exact h9.symm
          · rw [if_neg q]
        have eN : zc_EN c (upd Z f (nI z)) (upd G f b) A (upd V (96 + f) (nI z + w)) := by
          rw [hw]
          exact zc_EN_f (zc_EN_c e.1 (fun _ _ => ⟨rfl, rfl⟩) (fun _ _ => rfl) eV) hf6 (nI z) b
        refine ⟨rfl, zc_mk (zc_CW hn g' hS'' (zc_EN_c eN (fun _ _ => ⟨rfl, rfl⟩) hA2 (fun _ _ => rfl)) (zc_WF_c (zc_WF_f e.2 ⟨hz1, hz⟩ b01) (fun _ _ => ⟨rfl, rfl⟩) hA2) (zc_EN_c e.1 hZ hO hH) (zc_WF_c e.2 hZ hO))⟩
      refine br_f q1 (br_f q2 (br_t q3 (br_t rfl (zc_stage (p := 12) hm g s (by omega) ?_))))
      intro S' T' s' hS'
      refine br_c (fun q => fin 0 (by rw [if_pos q]) S' T' s' hS') (fun q => fin 32 (by rw [if_neg q]) S' T' s' hS')
    · exact br_f q1 (br_f q2 (br_t q3 (br_f q4 (Y _ (br_f q1 (br_f q2 (br_t q3 (br_f q4 ⟨rfl, zc_mk C⟩))))))))
  · exact br_f q1 (br_f q2 (br_f q3 (Y _ (br_f q1 (br_f q2 (br_f q3 ⟨rfl, zc_mk C⟩))))))
theorem i_vc_update {k : Nat} {u : SX} {v : SY} (I : i_Rel k u v) (hk : k + 4 ≤ 2048) (v1 : Int32) (v2 : Int32) (v3 : Int32) : wpX_update (fun r u' => wpY_update (fun r' v' => r' = r ∧ i_Rel (k + 4) u' v') v v1 v2 v3) u v1 v2 v3 := by
  refine zc_el (Q := fun u v => wpX_update (fun r u' => wpY_update (fun r' v' => r' = r ∧ i_Rel (k + 4) u' v') v v1 v2 v3) u v1 v2 v3) ?_ I
  intro m ft fv fi fc c oc H P B S T Z G A N OZ OG OA L V C
  obtain ⟨r, hX, hY, hr⟩ := zc_ref (ft := ft) (fv := fv) C v1 v2
  unfold wpX_update
  dsimp only
  refine hX _ ?_
  rcases hr with ⟨er, f, o, hf, ho, ea, eb, hz⟩ | ⟨n0, nn⟩
  · subst er ea eb
    refine br_t rfl (nm_r (zc_pg ho) ?_)
    obtain ⟨hm, g, s, e, f0, f1, o0, o1⟩ := C
    refine zc_stage hm g s (by omega) ?_
    intro S' T' s' hS'
    rw [zc_px ho, zc_cl (by omega) (by omega)]
    have ei : 8 * (2 * f + o / 8) + o % 8 = 16 * f + o := by omega
    rw [ei]
    have s2 := zc_ST_upd s' (2 * f + o / 8) (o % 8) ei.symm (by omega) hS' (v3 &&& 255)
    refine ⟨zc_in (by omega) (by omega), nm_e ?_⟩
    by_cases q : fi = 0
    · subst q
      have eV : ∀ j, j < 112 → V j = L j := zc_ST_eq s (o0 rfl)
      refine br_t rfl (zc_writeLog hm g s2 ?_)
      intro n H' P' B' S'' hn hH g' hS''
      unfold wpY_update
      dsimp only
      refine hY _ (br_t (by decide) (br_t rfl (zc_keep e.2.2.2.1 ?_)))
      intro OZ' OG' O hZ hO
      rw [zc_cl6 hf ho]
      refine ⟨zc_in6 hf ho, nm_e ⟨rfl, zc_mk (zc_CW hn g' hS'' ?_ ?_ (zc_EN_c e.1 hZ hO hH) (zc_WF_c e.2 hZ hO))⟩⟩
      · exact zc_EN_u (zc_EN_c e.1 (fun _ _ => ⟨rfl, rfl⟩) (fun _ _ => rfl) eV) (by omega) _
      · exact zc_WF_u e.2 ho hz _
    · refine br_f q ?_
      unfold wpY_update
      dsimp only
      refine hY _ (br_t (by decide) (br_f q ?_))
      rw [zc_cl6 hf ho]
      refine ⟨zc_in6 hf ho, nm_e ⟨rfl, zc_mk ⟨hm, g, s2, e, f0, f1, fun z => absurd z q, fun _ => ⟨?_, ?_⟩⟩⟩⟩
      · exact zc_EN_u (o1 q).1 (by omega) _
      · exact zc_WF_u (o1 q).2 ho hz _
  · refine br_f n0 ?_
    unfold wpY_update
    dsimp only
    exact hY _ (br_f nn ⟨rfl, zc_mk C⟩)
theorem i_vc_read {k : Nat} {u : SX} {v : SY} (I : i_Rel k u v) (hk : k + 4 ≤ 2048) (v1 : Int32) (v2 : Int32) : wpX_read (fun r => wpY_read (fun r' => r' = r ∧ i_Rel (k + 4) u v) v v1 v2) u v1 v2 := by
  refine zc_el (Q := fun u v => wpX_read (fun r => wpY_read (fun r' => r' = r ∧ i_Rel (k + 4) u v) v v1 v2) u v1 v2) ?_ I
  intro m ft fv fi fc c oc H P B S T Z G A N OZ OG OA L V C
  obtain ⟨r, hX, hY, hr⟩ := zc_ref (ft := ft) (fv := fv) C v1 v2
  unfold wpX_read
  dsimp only
  refine hX _ ?_
  rcases hr with ⟨er, f, o, hf, ho, ea, eb, hz⟩ | ⟨n0, nn⟩
  · subst er ea eb
    refine br_t rfl ?_
    rw [zc_pg ho, zc_px ho]
    refine zc_byteAt C.1 C.2.1 C.2.2.1 (by omega) (by omega) ?_
    have ei : 8 * (2 * f + o / 8) + o % 8 = 16 * f + o := by omega
    rw [ei, (zc_cur C).1.1 _ (by omega)]
    unfold wpY_read
    dsimp only
    refine hY _ (br_t (by decide) ?_)
    rw [zc_cl6 hf ho]
    refine br_c (fun q => ⟨zc_in6 hf ho, ?_, zc_mk C⟩) (fun q => ⟨zc_in6 hf ho, ?_, zc_mk C⟩)
    · rw [show zc_D fi A N = A from if_pos q]
    · rw [show zc_D fi A N = N from if_neg q]
  · refine br_f n0 ?_
    unfold wpY_read
    dsimp only
    exact hY _ (br_f nn ⟨rfl, zc_mk C⟩)
theorem i_vc_begin {k : Nat} {u : SX} {v : SY} (I : i_Rel k u v) (hk : k + 4 ≤ 2048) : wpX_begin (fun r u' => wpY_begin (fun r' v' => r' = r ∧ i_Rel (k + 4) u' v') v) u := by
  refine zc_el (Q := fun u v => wpX_begin (fun r u' => wpY_begin (fun r' v' => r' = r ∧ i_Rel (k + 4) u' v') v) u) ?_ I
  intro m ft fv fi fc c oc H P B S T Z G A N OZ OG OA L V C
  by_cases q : fi = 0
  · refine br_t q (br_t q ⟨97, zc_b17 ?_ 96 0 N rfl (fun i hi => absurd hi (Nat.not_lt_zero i))⟩)
    intro N' hN
    have K := zc_cur C
    rw [show zc_D fi A N = A from if_pos q] at K
    obtain ⟨hm, g, s, e, f0, f1, o0, o1⟩ := C
    exact ⟨rfl, zc_mk ⟨hm, g, s, e, f0, f1, fun z => absurd z (by decide), fun _ => ⟨zc_EN_c K.1 (fun _ _ => ⟨rfl, rfl⟩) hN (fun _ _ => rfl), zc_WF_c K.2 (fun _ _ => ⟨rfl, rfl⟩) hN⟩⟩⟩
  · exact br_f q (br_f q ⟨rfl, zc_mk C⟩)
theorem i_vc_commit {k : Nat} {u : SX} {v : SY} (I : i_Rel k u v) (hk : k + 4 ≤ 2048) : wpX_commit (fun r u' => wpY_commit (fun r' v' => r' = r ∧ i_Rel (k + 4) u' v') v) u := by
  refine zc_el (Q := fun u v => wpX_commit (fun r u' => wpY_commit (fun r' v' => r' = r ∧ i_Rel (k + 4) u' v') v) u) ?_ I
  intro m ft fv fi fc c oc H P B S T Z G A N OZ OG OA L V C
  by_cases q : fi = 0
  · exact br_t q (br_t q ⟨rfl, zc_mk C⟩)
  · obtain ⟨hm, g, s, e, f0, f1, o0, o1⟩ := C
    refine br_f q (zc_writeLog hm g s ?_)
    intro n H' P' B' S'' hn hH g' hS''
    refine br_f q (zc_keep e.2.2.2.1 ?_)
    intro OZ' OG' O hZ hO
    refine ⟨97, zc_c16 ?_ 96 0 A rfl (fun i hi => absurd hi (Nat.not_lt_zero i))⟩
    intro A' hA
    exact ⟨rfl, zc_mk (zc_CW hn g' hS'' (zc_EN_c (o1 q).1 (fun _ _ => ⟨rfl, rfl⟩) hA (fun _ _ => rfl)) (zc_WF_c (o1 q).2 (fun _ _ => ⟨rfl, rfl⟩) hA) (zc_EN_c e.1 hZ hO hH) (zc_WF_c e.2 hZ hO))⟩
theorem i_vc_abort {k : Nat} {u : SX} {v : SY} (I : i_Rel k u v) (hk : k + 4 ≤ 2048) : wpX_abort (fun r u' => wpY_abort (fun r' v' => r' = r ∧ i_Rel (k + 4) u' v') v) u := by
  refine zc_el (Q := fun u v => wpX_abort (fun r u' => wpY_abort (fun r' v' => r' = r ∧ i_Rel (k + 4) u' v') v) u) ?_ I
  intro m ft fv fi fc c oc H P B S T Z G A N OZ OG OA L V C
  by_cases q : fi = 0
  · exact br_t q (br_t q ⟨rfl, zc_mk C⟩)
  · obtain ⟨hm, g, s, e, f0, f1, o0, o1⟩ := C
    refine br_f q (zc_unstage ?_)
    intro S' hS
    exact br_f q ⟨rfl, zc_mk (L := L) (V := L) ⟨hm, g, zc_ST_no hS, e, f0, f1, fun _ => hS, fun z => absurd rfl z⟩⟩
theorem i_vc_verify {k : Nat} {u : SX} {v : SY} (I : i_Rel k u v) (hk : k + 4 ≤ 2048) (v1 : Int32) : wpX_verify (fun r u' => wpY_verify (fun r' v' => r' = r ∧ i_Rel (k + 4) u' v') v v1) u v1 := by
  refine zc_el (Q := fun u v => wpX_verify (fun r u' => wpY_verify (fun r' v' => r' = r ∧ i_Rel (k + 4) u' v') v v1) u v1) ?_ I
  intro m ft fv fi fc c oc H P B S T Z G A N OZ OG OA L V C
  by_cases q : ft = 0
  · exact br_t q (br_t q ⟨rfl, zc_mk C⟩)
  · have K := zc_cur C
    obtain ⟨n, hn, ec⟩ := K.2.1
    have e0 : V (8 * 13 + 0) = c &&& 255 := K.1.2.2.1
    have e1 : V (8 * 13 + 1) = c >>> ((8 : Int32) &&& 31) := K.1.2.2.2
    refine br_f q (nm_e (zc_byteAt (p := 13) (i := 0) C.1 C.2.1 C.2.2.1 (by omega) (by omega) (zc_byteAt (p := 13) (i := 1) C.1 C.2.1 C.2.2.1 (by omega) (by omega) ?_)))
    rw [e0, e1]
    refine nm_r (e' := c) (by rw [ec]; exact zc_code hn) ?_
    by_cases qc : c = v1
    · refine br_t qc (br_f q (br_t qc.symm (And.intro rfl (And.intro rfl (br_f (by decide) ⟨rfl, zc_mk C⟩)))))
    · refine br_f qc (br_f q (br_f (fun z => qc z.symm) (And.intro rfl (And.intro rfl (br_t rfl (nm_e ⟨rfl, zc_mk C⟩))))))
theorem i_vc_change {k : Nat} {u : SX} {v : SY} (I : i_Rel k u v) (hk : k + 4 ≤ 2048) (v1 : Int32) : wpX_change (fun r u' => wpY_change (fun r' v' => r' = r ∧ i_Rel (k + 4) u' v') v v1) u v1 := by
  refine zc_el (Q := fun u v => wpX_change (fun r u' => wpY_change (fun r' v' => r' = r ∧ i_Rel (k + 4) u' v') v v1) u v1) ?_ I
  intro m ft fv fi fc c oc H P B S T Z G A N OZ OG OA L V C
  by_cases h0 : v1 < 0
  · exact br_t h0 (br_t h0 ⟨rfl, zc_mk C⟩)
  by_cases h9 : v1 ≤ 9999
  · by_cases hv : fv = 0
    · exact br_f h0 (br_t h9 (br_t hv (br_f h0 (br_t h9 (br_t hv ⟨rfl, zc_mk C⟩)))))
    by_cases q : fi = 0
    · subst q
      obtain ⟨n, hn, ec⟩ := nI_of2 (n := 9999) (M := 9999) (by decide) h0 h9
      obtain ⟨hm, g, s, e, f0, f1, o0, o1⟩ := C
      have eV : ∀ j, j < 112 → V j = L j := zc_ST_eq s (o0 rfl)
      refine br_f h0 (br_t h9 (br_f hv (br_t rfl (zc_stage (p := 13) hm g s (by omega) ?_))))
      intro S' T' s' hS'
      have s2 := zc_ST_upd s' (k := 104) 13 0 (by omega) (by omega) hS' (v1 &&& 255)
      have s3 := zc_ST_upd s2 (k := 105) 13 1 (by omega) (by omega) hS' (v1 >>> ((8 : Int32) &&& 31))
      refine nm_e (nm_e (zc_writeLog hm g s3 ?_))
      intro n' H' P' B' S'' hn' hH g' hS''
      refine br_f h0 (br_t h9 (br_f hv (br_t rfl (zc_keep e.2.2.2.1 ?_))))
      intro OZ' OG' O hZ hO
      refine ⟨rfl, zc_mk (zc_CW hn' g' hS'' (zc_EN_k (zc_EN_c e.1 (fun _ _ => ⟨rfl, rfl⟩) (fun _ _ => rfl) eV) v1) ?_ (zc_EN_c e.1 hZ hO hH) (zc_WF_c e.2 hZ hO))⟩
      rw [ec]
      exact zc_WF_k e.2 hn
    · exact br_f h0 (br_t h9 (br_f hv (br_f q (br_f h0 (br_t h9 (br_f hv (br_f q ⟨rfl, zc_mk C⟩)))))))
  · exact br_f h0 (br_f h9 (br_f h0 (br_f h9 ⟨rfl, zc_mk C⟩)))
theorem i_vc_power {k : Nat} {u : SX} {v : SY} (I : i_Rel k u v) (hk : k + 4 ≤ 2048) : wpX_power (fun u' => wpY_power (fun v' => i_Rel (k + 4) u' v') v) u := by
  refine zc_el (Q := fun u v => wpX_power (fun u' => wpY_power (fun v' => i_Rel (k + 4) u' v') v) u) ?_ I
  intro m ft fv fi fc c oc H P B S T Z G A N OZ OG OA L V C
  obtain ⟨hm, g, s, e, f0, f1, o0, o1⟩ := C
  unfold wpX_power
  dsimp only
  refine zc_start hm g ?_
  intro H' S' hH hS
  exact zc_mk (m := 0) (zc_C0 hS (zc_EN_c e.1 (fun _ _ => ⟨rfl, rfl⟩) (fun _ _ => rfl) hH) e.2)
theorem i_vc_torn {k : Nat} {u : SX} {v : SY} (I : i_Rel k u v) (hk : k + 4 ≤ 2048) (v1 : Int32) (v2 : Int32) : wpX_torn (fun u' => wpY_torn (fun v' => i_Rel (k + 4) u' v') v (lw_bz v1) v2) u (lw_bz v1) v2 := by
  refine zc_el (Q := fun u v => wpX_torn (fun u' => wpY_torn (fun v' => i_Rel (k + 4) u' v') v (lw_bz v1) v2) u (lw_bz v1) v2) ?_ I
  intro m ft fv fi fc c oc H P B S T Z G A N OZ OG OA L V C
  obtain ⟨hm, g, s, e, f0, f1, o0, o1⟩ := C
  by_cases q : lw_bz v1 = 0
  · refine br_t q ⟨1, zc_t11 (m := 0) (L := H) v2 (by omega) ?_ 0 0 H rfl zc_LG_0⟩
    intro H' S' hH hS
    by_cases qc : fc = 0
    · refine br_t qc (zc_y83 ?_)
      have em : m = 0 := f0 qc
      subst em
      exact zc_mk (m := 0) (zc_C0 hS (zc_EN_c e.1 (fun _ _ => ⟨rfl, rfl⟩) (fun _ _ => rfl) (fun j hj => (hH j hj).trans (zc_LG_all g j hj))) e.2)
    · refine br_f qc (br_t q ⟨7, zc_y13 (f1 qc).2.2.2.1 ?_ 6 0 Z G rfl (fun f hf => absurd hf (Nat.not_lt_zero f))⟩)
      intro Z' G' A' hZ hA
      exact zc_mk (m := 0) (zc_C0 hS (zc_EN_c (f1 qc).1 hZ hA hH) (zc_WF_c (f1 qc).2 hZ hA))
  · refine br_f q ⟨m + 1, zc_t11 v2 hm ?_ m 0 H (by omega) g⟩
    intro H' S' hH hS
    have R := zc_C0 (P := P) (B := B) (T := T) (N := N) (oc := oc) (OZ := OZ) (OG := OG) (OA := OA) hS (zc_EN_c e.1 (fun _ _ => ⟨rfl, rfl⟩) (fun _ _ => rfl) hH) e.2
    exact br_c (fun _ => zc_y83 (zc_mk (m := 0) R)) (fun _ => br_f q (zc_y83 (zc_mk (m := 0) R)))
theorem i_vc_size {k : Nat} {u : SX} {v : SY} (I : i_Rel k u v) (hk : k + 4 ≤ 2048) (v1 : Int32) : wpX_size (fun r => wpY_size (fun r' => r' = r ∧ i_Rel (k + 4) u v) v v1) u v1 := by
  refine zc_el (Q := fun u v => wpX_size (fun r => wpY_size (fun r' => r' = r ∧ i_Rel (k + 4) u v) v v1) u v1) ?_ I
  intro m ft fv fi fc c oc H P B S T Z G A N OZ OG OA L V C
  by_cases h0 : v1 < 0
  · exact br_t h0 (br_t h0 ⟨rfl, zc_mk C⟩)
  by_cases h5 : v1 ≤ 5
  · obtain ⟨f, hf, ea⟩ := nI_of2 (n := 5) (M := 5) (by decide) h0 h5
    subst ea
    refine zc_xsize C (by omega) (br_f h0 (br_t h5 ⟨vp_in_nI (by omega) (by omega), ?_, zc_mk C⟩))
    rw [nI_clamp (by omega)]
  · exact br_f h0 (br_f h5 (br_f h0 (br_f h5 ⟨rfl, zc_mk C⟩)))
theorem i_vc_state {k : Nat} {u : SX} {v : SY} (I : i_Rel k u v) (hk : k + 4 ≤ 2048) : wpX_state (fun r => wpY_state (fun r' => r' = r ∧ i_Rel (k + 4) u v) v) u := by
  refine zc_el (Q := fun u v => wpX_state (fun r => wpY_state (fun r' => r' = r ∧ i_Rel (k + 4) u v) v) u) ?_ I
  intro m ft fv fi fc c oc H P B S T Z G A N OZ OG OA L V C
  exact br_c (fun q => br_t q ⟨rfl, zc_mk C⟩) (fun q => br_f q ⟨rfl, zc_mk C⟩)
end
