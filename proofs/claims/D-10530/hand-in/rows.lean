section
/-- shifts, masks, bits of a block's four pages -/
theorem pg_sh2 {p : Nat} (h : p < 2 ^ 31) : nI p >>> ((2 : Int32) &&& 31) = nI (p / 4) := pk_shrN h _ 2 (by decide)
theorem pg_an3 {p : Nat} (h : p < 2 ^ 31) : nI p &&& 3 = nI (p % 4) := pk_andN (by omega) 2 (by decide)
theorem pg_sl : ∀ o, o < 4 → (1 : Int32) <<< (nI o &&& 31) = nI (2 ^ o) := by decide +kernel
theorem pg_bit : ∀ m, m < 16 → ∀ k, k < 4 → ((nI m >>> (nI k &&& 31)) &&& 1) = nI (m / 2 ^ k % 2) := by decide +kernel
theorem pg_or : ∀ m, m < 16 → ∀ k, k < 4 → m / 2 ^ k % 2 = 0 → nI m ||| ((1 : Int32) <<< (nI k &&& 31)) = nI (m + 2 ^ k) := by decide +kernel
theorem pg_nm1 {x : Nat} (h : x < 2 ^ 31) : ¬ nI x = -1 := by
  intro e
  have h1 := congrArg Int32.toInt e
  rw [nI_toInt h] at h1
  have h2 : (-1 : Int32).toInt = -1 := by decide
  rw [h2] at h1
  omega
theorem pg_48 (o x : Nat) : 48 * nI o + nI x = nI (48 * o + x) := by
  rw [show (48 : Int32) = nI 48 from rfl, pk_mul, nI_add]
theorem pg_4 (b : Nat) : 4 * nI b = nI (4 * b) := by
  rw [show (4 : Int32) = nI 4 from rfl, pk_mul]
theorem pg_4k (b k : Nat) : 4 * nI b + nI k = nI (4 * b + k) := by
  rw [pg_4, nI_add]
theorem pg_ix {o x : Nat} (ho : o < 4) : 48 * nI o + nI x + ((1 : Int32) <<< (nI o &&& 31)) = nI (48 * o + x + 2 ^ o) := by
  rw [pg_48, pg_sl o ho, nI_add]
theorem pg_dec : ∀ o, o < 4 → nI o - 1 < nI o := by decide +kernel
theorem pg_o4 {P : Nat → Prop} (h0 : P 0) (h1 : P 1) (h2 : P 2) (h3 : P 3) : ∀ o, o < 4 → P o := by
  intro o ho
  have : o = 0 ∨ o = 1 ∨ o = 2 ∨ o = 3 := by omega
  rcases this with rfl | rfl | rfl | rfl <;> assumption
theorem pg_mulL : ∀ o, o < 4 → ∀ i e, i < e → i * 2 ^ o < e * 2 ^ o := by
  refine pg_o4 ?_ ?_ ?_ ?_ <;> intro i e h <;> omega
theorem pg_ex (K : Nat) : ∀ o, o < 4 → ∃ e, e * 2 ^ o = 8 * K := by
  refine pg_o4 ⟨8 * K, ?_⟩ ⟨4 * K, ?_⟩ ⟨2 * K, ?_⟩ ⟨K, ?_⟩ <;> omega
theorem pg_i48 : ∀ o, o < 4 → ∀ x, x < 48 → 48 * o + x < 192 := by
  intro o ho x hx; omega

/-- the pages lo .. hi - 1 are mapped: the bits of block b -/
def pg_hm (lo hi b : Nat) : Nat := (if lo ≤ 4 * b ∧ 4 * b < hi then 1 else 0) + (if lo ≤ 4 * b + 1 ∧ 4 * b + 1 < hi then 2 else 0) + (if lo ≤ 4 * b + 2 ∧ 4 * b + 2 < hi then 4 else 0) + (if lo ≤ 4 * b + 3 ∧ 4 * b + 3 < hi then 8 else 0)
theorem pg_hm_lt (lo hi b : Nat) : pg_hm lo hi b < 16 := by
  unfold pg_hm
  split <;> split <;> split <;> split <;> omega
theorem pg_hm_bit1 {lo hi p : Nat} (h1 : lo ≤ p) (h2 : p < hi) : pg_hm lo hi (p / 4) / 2 ^ (p % 4) % 2 = 1 := by
  have hk : p % 4 = 0 ∨ p % 4 = 1 ∨ p % 4 = 2 ∨ p % 4 = 3 := by omega
  unfold pg_hm
  rcases hk with e | e | e | e <;> rw [e] <;> split <;> split <;> split <;> split <;> omega
theorem pg_hm_bit0 {lo hi p : Nat} (h : p < lo ∨ hi ≤ p) : pg_hm lo hi (p / 4) / 2 ^ (p % 4) % 2 = 0 := by
  have hk : p % 4 = 0 ∨ p % 4 = 1 ∨ p % 4 = 2 ∨ p % 4 = 3 := by omega
  unfold pg_hm
  rcases hk with e | e | e | e <;> rw [e] <;> split <;> split <;> split <;> split <;> omega
theorem pg_hm_same {lo hi b : Nat} (h : b ≠ hi / 4) : pg_hm lo (hi + 1) b = pg_hm lo hi b := by
  have f : ∀ (x v : Nat), x ≠ hi → (if lo ≤ x ∧ x < hi + 1 then v else 0) = (if lo ≤ x ∧ x < hi then v else 0) := by
    intro x v hx
    by_cases c : lo ≤ x ∧ x < hi
    · rw [if_pos c, if_pos (by omega)]
    · rw [if_neg c, if_neg (by omega)]
  unfold pg_hm
  rw [f _ _ (show 4 * b ≠ hi by omega), f _ _ (show 4 * b + 1 ≠ hi by omega), f _ _ (show 4 * b + 2 ≠ hi by omega), f _ _ (show 4 * b + 3 ≠ hi by omega)]
theorem pg_hm_new {lo hi : Nat} (h : lo ≤ hi) : pg_hm lo (hi + 1) (hi / 4) = pg_hm lo hi (hi / 4) + 2 ^ (hi % 4) := by
  have hk : hi % 4 = 0 ∨ hi % 4 = 1 ∨ hi % 4 = 2 ∨ hi % 4 = 3 := by omega
  unfold pg_hm
  rcases hk with e | e | e | e
  · rw [e, if_pos (show lo ≤ 4 * (hi / 4) ∧ 4 * (hi / 4) < hi + 1 by omega), if_neg (show ¬ (lo ≤ 4 * (hi / 4) + 1 ∧ 4 * (hi / 4) + 1 < hi + 1) by omega), if_neg (show ¬ (lo ≤ 4 * (hi / 4) + 2 ∧ 4 * (hi / 4) + 2 < hi + 1) by omega), if_neg (show ¬ (lo ≤ 4 * (hi / 4) + 3 ∧ 4 * (hi / 4) + 3 < hi + 1) by omega)]
    rw [if_neg (show ¬ (lo ≤ 4 * (hi / 4) ∧ 4 * (hi / 4) < hi) by omega), if_neg (show ¬ (lo ≤ 4 * (hi / 4) + 1 ∧ 4 * (hi / 4) + 1 < hi) by omega), if_neg (show ¬ (lo ≤ 4 * (hi / 4) + 2 ∧ 4 * (hi / 4) + 2 < hi) by omega), if_neg (show ¬ (lo ≤ 4 * (hi / 4) + 3 ∧ 4 * (hi / 4) + 3 < hi) by omega)]
  · rw [e, if_pos (show lo ≤ 4 * (hi / 4) + 1 ∧ 4 * (hi / 4) + 1 < hi + 1 by omega), if_neg (show ¬ (lo ≤ 4 * (hi / 4) + 2 ∧ 4 * (hi / 4) + 2 < hi + 1) by omega), if_neg (show ¬ (lo ≤ 4 * (hi / 4) + 3 ∧ 4 * (hi / 4) + 3 < hi + 1) by omega)]
    rw [if_neg (show ¬ (lo ≤ 4 * (hi / 4) + 1 ∧ 4 * (hi / 4) + 1 < hi) by omega), if_neg (show ¬ (lo ≤ 4 * (hi / 4) + 2 ∧ 4 * (hi / 4) + 2 < hi) by omega), if_neg (show ¬ (lo ≤ 4 * (hi / 4) + 3 ∧ 4 * (hi / 4) + 3 < hi) by omega)]
    split <;> split <;> omega
  · rw [e, if_pos (show lo ≤ 4 * (hi / 4) + 2 ∧ 4 * (hi / 4) + 2 < hi + 1 by omega), if_neg (show ¬ (lo ≤ 4 * (hi / 4) + 3 ∧ 4 * (hi / 4) + 3 < hi + 1) by omega)]
    rw [if_neg (show ¬ (lo ≤ 4 * (hi / 4) + 2 ∧ 4 * (hi / 4) + 2 < hi) by omega), if_neg (show ¬ (lo ≤ 4 * (hi / 4) + 3 ∧ 4 * (hi / 4) + 3 < hi) by omega)]
    split <;> split <;> split <;> split <;> omega
  · rw [e, if_pos (show lo ≤ 4 * (hi / 4) + 3 ∧ 4 * (hi / 4) + 3 < hi + 1 by omega)]
    rw [if_neg (show ¬ (lo ≤ 4 * (hi / 4) + 3 ∧ 4 * (hi / 4) + 3 < hi) by omega)]
    split <;> split <;> split <;> split <;> split <;> split <;> omega
theorem pg_hm_15 {lo hi b : Nat} : pg_hm lo hi b = 15 ↔ (lo ≤ 4 * b ∧ 4 * b + 4 ≤ hi) := by
  unfold pg_hm
  constructor
  · intro h
    split at h <;> split at h <;> split at h <;> split at h <;> omega
  · intro h
    rw [if_pos (by omega), if_pos (by omega), if_pos (by omega), if_pos (by omega)]
theorem pg_hm_0 {lo hi b : Nat} (h : hi ≤ 4 * b ∨ hi ≤ lo) : pg_hm lo hi b = 0 := by
  unfold pg_hm
  rw [if_neg (by omega), if_neg (by omega), if_neg (by omega), if_neg (by omega)]
theorem pg_hm_n0 {lo hi p : Nat} (h1 : lo ≤ p) (h2 : p < hi) : pg_hm lo hi (p / 4) ≠ 0 := by
  intro e
  have := pg_hm_bit1 h1 h2
  rw [e, Nat.zero_div] at this
  omega
theorem pg_hm_first {lo hi : Nat} (h : 4 * (lo / 4) + 4 ≤ hi) : pg_hm lo hi (lo / 4) = 16 - 2 ^ (lo % 4) := by
  have hk : lo % 4 = 0 ∨ lo % 4 = 1 ∨ lo % 4 = 2 ∨ lo % 4 = 3 := by omega
  unfold pg_hm
  rcases hk with e | e | e | e <;> rw [e] <;> split <;> split <;> split <;> split <;> omega

/-- the free runs while every block got its reservation: T blocks of four frames are taken -/
def pg_f1 (F T i : Nat) : Int32 := if (144 ≤ i ∧ (i - 144) % 8 = 0 ∧ 4 * T ≤ i - 144 ∧ i - 144 < F) ∨ (T % 2 = 1 ∧ i = 96 + 4 * T) then 1 else 0
/-- the free runs behind a preemption: v frames are left -/
def pg_f2 (v c i : Nat) : Int32 := if (v = 3 ∧ (i = 48 ∨ i = 2)) ∨ (v = 2 ∧ i = 48) ∨ (v = 1 ∧ i = c) then 1 else 0

theorem pg_has {post : Int32 → Prop} {fc uc cl : Int32} {a1 a2 a3 a4 a5 a6 a7 a8 a9 : Nat → Int32} {p m : Nat} (hp : p < 64) (hm : m < 16) (h6 : a6 (p / 4) = nI m) (h1 : m / 2 ^ (p % 4) % 2 = 1 → post 1) (h0 : m / 2 ^ (p % 4) % 2 = 0 → post 0) : wpX_has post (fc, uc, cl, a1, a2, a3, a4, a5, a6, a7, a8, a9) (nI p) := by
  unfold wpX_has
  rw [pg_sh2 (show p < 2 ^ 31 by omega), pg_an3 (show p < 2 ^ 31 by omega), nI_clamp (show p / 4 < 2 ^ 31 by omega)]
  dsimp only
  rw [h6, pg_bit m hm (p % 4) (by omega)]
  refine ⟨pk_in (p / 4) 16 (by omega), ?_⟩
  rcases Nat.mod_two_eq_zero_or_one (m / 2 ^ (p % 4)) with e | e
  · rw [e]
    exact br_f (by decide) (h0 e)
  · rw [e]
    exact br_t rfl (h1 e)
theorem pg_use {post : St2 → Prop} {fc uc cl : Int32} {a1 a2 a3 a4 a5 a6 a7 a8 a9 : Nat → Int32} {b : Nat} (hb : b < 16) (H : ∀ cl' a9', post (fc, uc, cl', a1, a2, a3, a4, a5, a6, a7, a8, a9')) : wpX_use post (fc, uc, cl, a1, a2, a3, a4, a5, a6, a7, a8, a9) (nI b) := by
  unfold wpX_use
  exact nm_e ⟨pk_in b 16 hb, nm_e (H _ _)⟩
end
section
theorem pg_sp0 {post : St2 → Prop} {fc uc cl : Int32} {a1 a2 a3 a4 a5 a6 a7 a8 a9 : Nat → Int32} {f o : Nat} (ho : o < 4) (h : post (fc, uc, cl, a1, a2, a3, a4, a5, a6, a7, a8, a9)) : wpX_split post (fc, uc, cl, a1, a2, a3, a4, a5, a6, a7, a8, a9) (nI f) (nI o) (nI o) := by
  unfold wpX_split
  exact nm_e ⟨1, br_t (pg_dec o ho) h⟩
theorem pg_sp1 {post : St2 → Prop} {fc uc cl : Int32} {a1 a2 a3 a4 a5 a6 a7 a8 a9 : Nat → Int32} {f o : Nat} (ho : o < 3) (hf : 48 * o + f + 2 ^ o < 192) (h : post (fc, uc, cl, a1, upd a2 (48 * o + f + 2 ^ o) 1, a3, a4, a5, a6, a7, a8, a9)) : wpX_split post (fc, uc, cl, a1, a2, a3, a4, a5, a6, a7, a8, a9) (nI f) (nI (o + 1)) (nI o) := by
  have e : 48 * nI o + nI f + ((1 : Int32) <<< (nI o &&& 31)) = nI (48 * o + f + 2 ^ o) := pg_ix (by omega)
  unfold wpX_split
  refine nm_r (nI_pred o) ⟨2, ?_⟩
  refine br_f (nI_nlt (Nat.le_refl o) (by omega)) ⟨pk_in (48 * o + f + 2 ^ o) 192 hf e, nm_r (by rw [pk_cl _ e (by omega)]) (nm_e (br_t ?_ h))⟩
  have := pg_dec o (by omega)
  rw [show nI o + (-1) = nI o - 1 from (Int32.sub_eq_add_neg _ _).symm]
  exact this
theorem pg_a9n {post : Int32 → St2 → Prop} {J2 : Int32 → Prop} {uc cl : Int32} {a1 a2 a3 a4 a5 a6 a7 a8 a9 : Nat → Int32} {F o ord e : Nat} (ho : o < 4) (hF : F ≤ 48) (he : e * 2 ^ o = F) (hz : ∀ i, i < e → a2 (48 * o + i * 2 ^ o) = 0) (hJ : J2 (nI (o + 1))) : ∃ fu, wX_allocate_9 post J2 (nI ord) (nI o) (nI F) uc cl a1 a2 a3 a4 a5 a6 a7 a8 a9 fu 0 := by
  obtain ⟨n, hn⟩ := pk_loop (σ := Unit) (fun n i _ => wX_allocate_9 post J2 (nI ord) (nI o) (nI F) uc cl a1 a2 a3 a4 a5 a6 a7 a8 a9 n (nI (i * 2 ^ o))) (fun _ _ => True) e 0 () (Nat.zero_le _) trivial
    (fun n _ _ => pk_le F (e * 2 ^ o) (fun _ => nm_r (nI_1 o) hJ) (fun z => absurd z (by omega)))
    (fun n i _ hi _ hw => by
      have hl := pg_mulL o ho i e hi
      have ex := pg_48 o (i * 2 ^ o)
      exact pk_le F (i * 2 ^ o) (fun z => absurd z (by omega)) (fun _ => ⟨pk_in (48 * o + i * 2 ^ o) 192 (by omega) ex, br_t (by rw [pk_cl _ ex (by omega)]; exact hz i hi) (nm_r (by rw [pg_sl o ho, nI_add, Nat.add_mul, Nat.one_mul]) (hw () trivial))⟩))
  have hn' : wX_allocate_9 post J2 (nI ord) (nI o) (nI F) uc cl a1 a2 a3 a4 a5 a6 a7 a8 a9 n (nI (0 * 2 ^ o)) := hn
  rw [Nat.zero_mul] at hn'
  exact ⟨n, hn'⟩
theorem pg_a9f {post : Int32 → St2 → Prop} {J2 : Int32 → Prop} {uc cl : Int32} {a1 a2 a3 a4 a5 a6 a7 a8 a9 : Nat → Int32} {F o ord e : Nat} (ho : o < 4) (hF : F ≤ 48) (he : e * 2 ^ o < F) (hz : ∀ i, i < e → a2 (48 * o + i * 2 ^ o) = 0) (hne : ¬ a2 (48 * o + e * 2 ^ o) = 0)
    (H : (o = ord ∧ post (nI (e * 2 ^ o)) (nI F, uc, cl, a1, upd a2 (48 * o + e * 2 ^ o) 0, a3, a4, a5, a6, a7, a8, a9)) ∨ (o = ord + 1 ∧ 48 * ord + e * 2 ^ o + 2 ^ ord < 192 ∧ post (nI (e * 2 ^ o)) (nI F, uc, cl, a1, upd (upd a2 (48 * o + e * 2 ^ o) 0) (48 * ord + e * 2 ^ o + 2 ^ ord) 1, a3, a4, a5, a6, a7, a8, a9))) :
    ∃ fu, wX_allocate_9 post J2 (nI ord) (nI o) (nI F) uc cl a1 a2 a3 a4 a5 a6 a7 a8 a9 fu 0 := by
  obtain ⟨n, hn⟩ := pk_loop (σ := Unit) (fun n i _ => wX_allocate_9 post J2 (nI ord) (nI o) (nI F) uc cl a1 a2 a3 a4 a5 a6 a7 a8 a9 n (nI (i * 2 ^ o))) (fun _ _ => True) e 0 () (Nat.zero_le _) trivial
    (fun n _ _ => by
      have ex := pg_48 o (e * 2 ^ o)
      refine pk_le F (e * 2 ^ o) (fun z => absurd z (by omega)) (fun _ => ⟨pk_in (48 * o + e * 2 ^ o) 192 (by omega) ex, br_f (by rw [pk_cl _ ex (by omega)]; exact hne) ⟨pk_in (48 * o + e * 2 ^ o) 192 (by omega) ex, nm_r (by rw [pk_cl _ ex (by omega)]) ?_⟩⟩)
      rcases H with ⟨h1, h2⟩ | ⟨h1, h3, h2⟩
      · subst h1
        exact pg_sp0 ho h2
      · subst h1
        exact pg_sp1 (by omega) h3 h2)
    (fun n i _ hi _ hw => by
      have hl := pg_mulL o ho i e hi
      have ex := pg_48 o (i * 2 ^ o)
      exact pk_le F (i * 2 ^ o) (fun z => absurd z (by omega)) (fun _ => ⟨pk_in (48 * o + i * 2 ^ o) 192 (by omega) ex, br_t (by rw [pk_cl _ ex (by omega)]; exact hz i hi) (nm_r (by rw [pg_sl o ho, nI_add, Nat.add_mul, Nat.one_mul]) (hw () trivial))⟩))
  have hn' : wX_allocate_9 post J2 (nI ord) (nI o) (nI F) uc cl a1 a2 a3 a4 a5 a6 a7 a8 a9 n (nI (0 * 2 ^ o)) := hn
  rw [Nat.zero_mul] at hn'
  exact ⟨n, hn'⟩
theorem pg_alf {post : Int32 → St2 → Prop} {uc cl : Int32} {a1 a2 a3 a4 a5 a6 a7 a8 a9 : Nat → Int32} {F K : Nat} (ord o e : Nat) (hF : F = 8 * K) (hK : K ≤ 6) (ho : o < 4) (hord : ord ≤ o) (he : e * 2 ^ o < F)
    (hz : ∀ o', ord ≤ o' → o' < o → ∀ i, i * 2 ^ o' < F → a2 (48 * o' + i * 2 ^ o') = 0) (hz' : ∀ i, i < e → a2 (48 * o + i * 2 ^ o) = 0) (hne : ¬ a2 (48 * o + e * 2 ^ o) = 0)
    (H : (o = ord ∧ post (nI (e * 2 ^ o)) (nI F, uc, cl, a1, upd a2 (48 * o + e * 2 ^ o) 0, a3, a4, a5, a6, a7, a8, a9)) ∨ (o = ord + 1 ∧ 48 * ord + e * 2 ^ o + 2 ^ ord < 192 ∧ post (nI (e * 2 ^ o)) (nI F, uc, cl, a1, upd (upd a2 (48 * o + e * 2 ^ o) 0) (48 * ord + e * 2 ^ o + 2 ^ ord) 1, a3, a4, a5, a6, a7, a8, a9))) :
    wpX_allocate post (nI F, uc, cl, a1, a2, a3, a4, a5, a6, a7, a8, a9) (nI ord) := by
  unfold wpX_allocate
  exact pk_loop (σ := Unit) (fun n i _ => wX_allocate_2 post (nI ord) (nI F) uc cl a1 a2 a3 a4 a5 a6 a7 a8 a9 n (nI i)) (fun i _ => ord ≤ i) o ord () hord (Nat.le_refl _)
    (fun n _ _ => pk_lt 3 o (fun z => absurd z (by omega)) (fun _ => pg_a9f ho (by omega) he hz' hne H))
    (fun n i _ hi h hw => pk_lt 3 i (fun z => absurd z (by omega)) (fun _ => by
      obtain ⟨e', he'⟩ := pg_ex K i (by omega)
      exact pg_a9n (e := e') (by omega) (by omega) (by omega) (fun k hk => hz i h hi k (by have := pg_mulL i (by omega) k e' hk; omega)) (hw () (by omega))))
theorem pg_aln {post : Int32 → St2 → Prop} {uc cl : Int32} {a1 a2 a3 a4 a5 a6 a7 a8 a9 : Nat → Int32} {F K : Nat} (ord : Nat) (hF : F = 8 * K) (hK : K ≤ 6) (hord : ord ≤ 4)
    (hz : ∀ o', ord ≤ o' → o' < 4 → ∀ i, i * 2 ^ o' < F → a2 (48 * o' + i * 2 ^ o') = 0)
    (H : post (-1) (nI F, uc, cl, a1, a2, a3, a4, a5, a6, a7, a8, a9)) :
    wpX_allocate post (nI F, uc, cl, a1, a2, a3, a4, a5, a6, a7, a8, a9) (nI ord) := by
  unfold wpX_allocate
  exact pk_loop (σ := Unit) (fun n i _ => wX_allocate_2 post (nI ord) (nI F) uc cl a1 a2 a3 a4 a5 a6 a7 a8 a9 n (nI i)) (fun i _ => ord ≤ i) 4 ord () hord (Nat.le_refl _)
    (fun n _ _ => pk_lt 3 4 (fun _ => H) (fun z => absurd z (by omega)))
    (fun n i _ hi h hw => pk_lt 3 i (fun z => absurd z (by omega)) (fun _ => by
      obtain ⟨e', he'⟩ := pg_ex K i (by omega)
      exact pg_a9n (e := e') (by omega) (by omega) (by omega) (fun k hk => hz i h hi k (by have := pg_mulL i (by omega) k e' hk; omega)) (hw () (by omega))))
theorem pg_tp0 {post : St2 → Prop} {fc uc cl : Int32} {a1 a2 a3 a4 a5 a6 a7 a8 a9 : Nat → Int32} {f o : Nat} (ho : o < 4) (h : post (fc, uc, cl, a1, a2, a3, a4, a5, a6, a7, a8, a9)) : wpX_split_2 post (fc, uc, cl, a1, a2, a3, a4, a5, a6, a7, a8, a9) (nI f) (nI o) (nI o) := by
  unfold wpX_split_2
  exact nm_e ⟨1, br_t (pg_dec o ho) h⟩
theorem pg_tp1 {post : St2 → Prop} {fc uc cl : Int32} {a1 a2 a3 a4 a5 a6 a7 a8 a9 : Nat → Int32} {f o : Nat} (ho : o < 3) (hf : 48 * o + f + 2 ^ o < 192) (h : post (fc, uc, cl, a1, upd a2 (48 * o + f + 2 ^ o) 1, a3, a4, a5, a6, a7, a8, a9)) : wpX_split_2 post (fc, uc, cl, a1, a2, a3, a4, a5, a6, a7, a8, a9) (nI f) (nI (o + 1)) (nI o) := by
  have e : 48 * nI o + nI f + ((1 : Int32) <<< (nI o &&& 31)) = nI (48 * o + f + 2 ^ o) := pg_ix (by omega)
  unfold wpX_split_2
  refine nm_r (nI_pred o) ⟨2, ?_⟩
  refine br_f (nI_nlt (Nat.le_refl o) (by omega)) ⟨pk_in (48 * o + f + 2 ^ o) 192 hf e, nm_r (by rw [pk_cl _ e (by omega)]) (nm_e (br_t ?_ h))⟩
  have := pg_dec o (by omega)
  rw [show nI o + (-1) = nI o - 1 from (Int32.sub_eq_add_neg _ _).symm]
  exact this
theorem pg_b9n {post : Int32 → St2 → Prop} {J2 : Int32 → Prop} {uc cl : Int32} {a1 a2 a3 a4 a5 a6 a7 a8 a9 : Nat → Int32} {F o ord e : Nat} (ho : o < 4) (hF : F ≤ 48) (he : e * 2 ^ o = F) (hz : ∀ i, i < e → a2 (48 * o + i * 2 ^ o) = 0) (hJ : J2 (nI (o + 1))) : ∃ fu, wX_allocate_2_9 post J2 (nI ord) (nI o) (nI F) uc cl a1 a2 a3 a4 a5 a6 a7 a8 a9 fu 0 := by
  obtain ⟨n, hn⟩ := pk_loop (σ := Unit) (fun n i _ => wX_allocate_2_9 post J2 (nI ord) (nI o) (nI F) uc cl a1 a2 a3 a4 a5 a6 a7 a8 a9 n (nI (i * 2 ^ o))) (fun _ _ => True) e 0 () (Nat.zero_le _) trivial
    (fun n _ _ => pk_le F (e * 2 ^ o) (fun _ => nm_r (nI_1 o) hJ) (fun z => absurd z (by omega)))
    (fun n i _ hi _ hw => by
      have hl := pg_mulL o ho i e hi
      have ex := pg_48 o (i * 2 ^ o)
      exact pk_le F (i * 2 ^ o) (fun z => absurd z (by omega)) (fun _ => ⟨pk_in (48 * o + i * 2 ^ o) 192 (by omega) ex, br_t (by rw [pk_cl _ ex (by omega)]; exact hz i hi) (nm_r (by rw [pg_sl o ho, nI_add, Nat.add_mul, Nat.one_mul]) (hw () trivial))⟩))
  have hn' : wX_allocate_2_9 post J2 (nI ord) (nI o) (nI F) uc cl a1 a2 a3 a4 a5 a6 a7 a8 a9 n (nI (0 * 2 ^ o)) := hn
  rw [Nat.zero_mul] at hn'
  exact ⟨n, hn'⟩
theorem pg_b9f {post : Int32 → St2 → Prop} {J2 : Int32 → Prop} {uc cl : Int32} {a1 a2 a3 a4 a5 a6 a7 a8 a9 : Nat → Int32} {F o ord e : Nat} (ho : o < 4) (hF : F ≤ 48) (he : e * 2 ^ o < F) (hz : ∀ i, i < e → a2 (48 * o + i * 2 ^ o) = 0) (hne : ¬ a2 (48 * o + e * 2 ^ o) = 0)
    (H : (o = ord ∧ post (nI (e * 2 ^ o)) (nI F, uc, cl, a1, upd a2 (48 * o + e * 2 ^ o) 0, a3, a4, a5, a6, a7, a8, a9)) ∨ (o = ord + 1 ∧ 48 * ord + e * 2 ^ o + 2 ^ ord < 192 ∧ post (nI (e * 2 ^ o)) (nI F, uc, cl, a1, upd (upd a2 (48 * o + e * 2 ^ o) 0) (48 * ord + e * 2 ^ o + 2 ^ ord) 1, a3, a4, a5, a6, a7, a8, a9))) :
    ∃ fu, wX_allocate_2_9 post J2 (nI ord) (nI o) (nI F) uc cl a1 a2 a3 a4 a5 a6 a7 a8 a9 fu 0 := by
  obtain ⟨n, hn⟩ := pk_loop (σ := Unit) (fun n i _ => wX_allocate_2_9 post J2 (nI ord) (nI o) (nI F) uc cl a1 a2 a3 a4 a5 a6 a7 a8 a9 n (nI (i * 2 ^ o))) (fun _ _ => True) e 0 () (Nat.zero_le _) trivial
    (fun n _ _ => by
      have ex := pg_48 o (e * 2 ^ o)
      refine pk_le F (e * 2 ^ o) (fun z => absurd z (by omega)) (fun _ => ⟨pk_in (48 * o + e * 2 ^ o) 192 (by omega) ex, br_f (by rw [pk_cl _ ex (by omega)]; exact hne) ⟨pk_in (48 * o + e * 2 ^ o) 192 (by omega) ex, nm_r (by rw [pk_cl _ ex (by omega)]) ?_⟩⟩)
      rcases H with ⟨h1, h2⟩ | ⟨h1, h3, h2⟩
      · subst h1
        exact pg_tp0 ho h2
      · subst h1
        exact pg_tp1 (by omega) h3 h2)
    (fun n i _ hi _ hw => by
      have hl := pg_mulL o ho i e hi
      have ex := pg_48 o (i * 2 ^ o)
      exact pk_le F (i * 2 ^ o) (fun z => absurd z (by omega)) (fun _ => ⟨pk_in (48 * o + i * 2 ^ o) 192 (by omega) ex, br_t (by rw [pk_cl _ ex (by omega)]; exact hz i hi) (nm_r (by rw [pg_sl o ho, nI_add, Nat.add_mul, Nat.one_mul]) (hw () trivial))⟩))
  have hn' : wX_allocate_2_9 post J2 (nI ord) (nI o) (nI F) uc cl a1 a2 a3 a4 a5 a6 a7 a8 a9 n (nI (0 * 2 ^ o)) := hn
  rw [Nat.zero_mul] at hn'
  exact ⟨n, hn'⟩
theorem pg_blf {post : Int32 → St2 → Prop} {uc cl : Int32} {a1 a2 a3 a4 a5 a6 a7 a8 a9 : Nat → Int32} {F K : Nat} (ord o e : Nat) (hF : F = 8 * K) (hK : K ≤ 6) (ho : o < 4) (hord : ord ≤ o) (he : e * 2 ^ o < F)
    (hz : ∀ o', ord ≤ o' → o' < o → ∀ i, i * 2 ^ o' < F → a2 (48 * o' + i * 2 ^ o') = 0) (hz' : ∀ i, i < e → a2 (48 * o + i * 2 ^ o) = 0) (hne : ¬ a2 (48 * o + e * 2 ^ o) = 0)
    (H : (o = ord ∧ post (nI (e * 2 ^ o)) (nI F, uc, cl, a1, upd a2 (48 * o + e * 2 ^ o) 0, a3, a4, a5, a6, a7, a8, a9)) ∨ (o = ord + 1 ∧ 48 * ord + e * 2 ^ o + 2 ^ ord < 192 ∧ post (nI (e * 2 ^ o)) (nI F, uc, cl, a1, upd (upd a2 (48 * o + e * 2 ^ o) 0) (48 * ord + e * 2 ^ o + 2 ^ ord) 1, a3, a4, a5, a6, a7, a8, a9))) :
    wpX_allocate_2 post (nI F, uc, cl, a1, a2, a3, a4, a5, a6, a7, a8, a9) (nI ord) := by
  unfold wpX_allocate_2
  exact pk_loop (σ := Unit) (fun n i _ => wX_allocate_2_2 post (nI ord) (nI F) uc cl a1 a2 a3 a4 a5 a6 a7 a8 a9 n (nI i)) (fun i _ => ord ≤ i) o ord () hord (Nat.le_refl _)
    (fun n _ _ => pk_lt 3 o (fun z => absurd z (by omega)) (fun _ => pg_b9f ho (by omega) he hz' hne H))
    (fun n i _ hi h hw => pk_lt 3 i (fun z => absurd z (by omega)) (fun _ => by
      obtain ⟨e', he'⟩ := pg_ex K i (by omega)
      exact pg_b9n (e := e') (by omega) (by omega) (by omega) (fun k hk => hz i h hi k (by have := pg_mulL i (by omega) k e' hk; omega)) (hw () (by omega))))
theorem pg_bln {post : Int32 → St2 → Prop} {uc cl : Int32} {a1 a2 a3 a4 a5 a6 a7 a8 a9 : Nat → Int32} {F K : Nat} (ord : Nat) (hF : F = 8 * K) (hK : K ≤ 6) (hord : ord ≤ 4)
    (hz : ∀ o', ord ≤ o' → o' < 4 → ∀ i, i * 2 ^ o' < F → a2 (48 * o' + i * 2 ^ o') = 0)
    (H : post (-1) (nI F, uc, cl, a1, a2, a3, a4, a5, a6, a7, a8, a9)) :
    wpX_allocate_2 post (nI F, uc, cl, a1, a2, a3, a4, a5, a6, a7, a8, a9) (nI ord) := by
  unfold wpX_allocate_2
  exact pk_loop (σ := Unit) (fun n i _ => wX_allocate_2_2 post (nI ord) (nI F) uc cl a1 a2 a3 a4 a5 a6 a7 a8 a9 n (nI i)) (fun i _ => ord ≤ i) 4 ord () hord (Nat.le_refl _)
    (fun n _ _ => pk_lt 3 4 (fun _ => H) (fun z => absurd z (by omega)))
    (fun n i _ hi h hw => pk_lt 3 i (fun z => absurd z (by omega)) (fun _ => by
      obtain ⟨e', he'⟩ := pg_ex K i (by omega)
      exact pg_b9n (e := e') (by omega) (by omega) (by omega) (fun k hk => hz i h hi k (by have := pg_mulL i (by omega) k e' hk; omega)) (hw () (by omega))))
/-- the next block of four: frames 4T .. 4T + 3 -/
theorem pg_al2 {post : Int32 → St2 → Prop} {uc cl : Int32} {a1 a2 a3 a4 a5 a6 a7 a8 a9 : Nat → Int32} {F K T : Nat} (hF : F = 8 * K) (hK : K ≤ 6) (hT : 4 * T < F) (h2 : ∀ i, i < 192 → a2 i = pg_f1 F T i)
    (H : ∀ a2', (∀ i, i < 192 → a2' i = pg_f1 F (T + 1) i) → post (nI (4 * T)) (nI F, uc, cl, a1, a2', a3, a4, a5, a6, a7, a8, a9)) : wpX_allocate_2 post (nI F, uc, cl, a1, a2, a3, a4, a5, a6, a7, a8, a9) 2 := by
  rcases Nat.mod_two_eq_zero_or_one T with eT | eT
  · have e4 : T / 2 * 2 ^ 3 = 4 * T := by omega
    refine pg_blf (K := K) 2 3 (T / 2) hF hK (by omega) (by omega) (by omega) (fun o' h h' i hi => ?_) (fun i hi => ?_) ?_ (Or.inr ⟨rfl, by omega, ?_⟩)
    · have : o' = 2 := by omega
      subst this
      rw [h2 _ (by omega)]
      exact if_neg (by omega)
    · rw [h2 _ (by omega)]
      exact if_neg (by omega)
    · rw [h2 _ (by omega), pg_f1, if_pos (by omega)]
      decide
    · rw [e4]
      refine H _ (fun i hi => ?_)
      by_cases c1 : i = 48 * 2 + 4 * T + 2 ^ 2
      · rw [c1, pk_us]
        exact (if_pos (by omega)).symm
      · rw [pk_un c1]
        by_cases c2 : i = 48 * 3 + 4 * T
        · rw [c2, pk_us]
          exact (if_neg (by omega)).symm
        · rw [pk_un c2, h2 i hi]
          unfold pg_f1
          by_cases c : (144 ≤ i ∧ (i - 144) % 8 = 0 ∧ 4 * T ≤ i - 144 ∧ i - 144 < F) ∨ (T % 2 = 1 ∧ i = 96 + 4 * T)
          · rw [if_pos c, if_pos (by omega)]
          · rw [if_neg c, if_neg (by omega)]
  · have e4 : T * 2 ^ 2 = 4 * T := by omega
    refine pg_blf (K := K) 2 2 T hF hK (by omega) (by omega) (by omega) (fun o' h h' i hi => absurd h (by omega)) (fun i hi => ?_) ?_ (Or.inl ⟨rfl, ?_⟩)
    · rw [h2 _ (by omega)]
      exact if_neg (by omega)
    · rw [h2 _ (by omega), pg_f1, if_pos (by omega)]
      decide
    · rw [e4]
      refine H _ (fun i hi => ?_)
      by_cases c2 : i = 48 * 2 + 4 * T
      · rw [c2, pk_us]
        exact (if_neg (by omega)).symm
      · rw [pk_un c2, h2 i hi]
        unfold pg_f1
        by_cases c : (144 ≤ i ∧ (i - 144) % 8 = 0 ∧ 4 * T ≤ i - 144 ∧ i - 144 < F) ∨ (T % 2 = 1 ∧ i = 96 + 4 * T)
        · rw [if_pos c, if_pos (by omega)]
        · rw [if_neg c, if_neg (by omega)]
theorem pg_f1_full {F K T i : Nat} (hF : F = 8 * K) (hT : 4 * T = F) : pg_f1 F T i = 0 := if_neg (by omega)
/-- no block of four is left, no frame is left -/
theorem pg_al2n {post : Int32 → St2 → Prop} {uc cl : Int32} {a1 a2 a3 a4 a5 a6 a7 a8 a9 : Nat → Int32} {F K : Nat} (hF : F = 8 * K) (hK : K ≤ 6) (h2 : ∀ i, i < 192 → a2 i = 0)
    (H : post (-1) (nI F, uc, cl, a1, a2, a3, a4, a5, a6, a7, a8, a9)) : wpX_allocate_2 post (nI F, uc, cl, a1, a2, a3, a4, a5, a6, a7, a8, a9) 2 :=
  pg_bln (K := K) 2 hF hK (by omega) (fun o' h h' i hi => h2 _ (pg_i48 o' h' _ (by omega))) H
theorem pg_al0n {post : Int32 → St2 → Prop} {uc cl : Int32} {a1 a2 a3 a4 a5 a6 a7 a8 a9 : Nat → Int32} {F K : Nat} (hF : F = 8 * K) (hK : K ≤ 6) (h2 : ∀ i, i < 192 → a2 i = 0)
    (H : post (-1) (nI F, uc, cl, a1, a2, a3, a4, a5, a6, a7, a8, a9)) : wpX_allocate post (nI F, uc, cl, a1, a2, a3, a4, a5, a6, a7, a8, a9) 0 :=
  pg_aln (K := K) 0 hF hK (by omega) (fun o' h h' i hi => h2 _ (pg_i48 o' h' _ (by omega))) H
/-- one of the v frames that a preemption gave back -/
theorem pg_al0 {post : Int32 → St2 → Prop} {uc cl : Int32} {a1 a2 a3 a4 a5 a6 a7 a8 a9 : Nat → Int32} {F K v c : Nat} (hF : F = 8 * K) (hK1 : 1 ≤ K) (hK : K ≤ 6) (hv1 : 1 ≤ v) (hv : v ≤ 3) (hc : c ≤ 1) (h2 : ∀ i, i < 192 → a2 i = pg_f2 v c i)
    (H : ∀ x a2' c', x < 48 → c' ≤ 1 → (∀ i, i < 192 → a2' i = pg_f2 (v - 1) c' i) → post (nI x) (nI F, uc, cl, a1, a2', a3, a4, a5, a6, a7, a8, a9)) : wpX_allocate post (nI F, uc, cl, a1, a2, a3, a4, a5, a6, a7, a8, a9) 0 := by
  have hv' : v = 1 ∨ v = 2 ∨ v = 3 := by omega
  rcases hv' with rfl | rfl | rfl
  · refine pg_alf (K := K) 0 0 c hF hK (by omega) (by omega) (by omega) (fun o' h h' i hi => absurd h' (by omega)) (fun i hi => ?_) ?_ (Or.inl ⟨rfl, H _ _ 0 (by omega) (by omega) (fun i hi => ?_)⟩)
    · rw [h2 _ (by omega)]
      exact if_neg (by omega)
    · rw [h2 _ (by omega), pg_f2, if_pos (by omega)]
      decide
    · by_cases c2 : i = 48 * 0 + c * 2 ^ 0
      · rw [c2, pk_us]
        exact (if_neg (by omega)).symm
      · rw [pk_un c2, h2 i hi, pg_f2, pg_f2, if_neg (by omega), if_neg (by omega)]
  · refine pg_alf (K := K) 0 1 0 hF hK (by omega) (by omega) (by omega) (fun o' h h' i hi => ?_) (fun i hi => absurd hi (by omega)) ?_ (Or.inr ⟨rfl, by omega, H _ _ 1 (by omega) (by omega) (fun i hi => ?_)⟩)
    · have : o' = 0 := by omega
      subst this
      rw [h2 _ (by omega)]
      exact if_neg (by omega)
    · rw [h2 _ (by omega), pg_f2, if_pos (by omega)]
      decide
    · by_cases c1 : i = 48 * 0 + 0 * 2 ^ 1 + 2 ^ 0
      · rw [c1, pk_us]
        exact (if_pos (by omega)).symm
      · rw [pk_un c1]
        by_cases c2 : i = 48 * 1 + 0 * 2 ^ 1
        · rw [c2, pk_us]
          exact (if_neg (by omega)).symm
        · rw [pk_un c2, h2 i hi, pg_f2, pg_f2, if_neg (by omega), if_neg (by omega)]
  · refine pg_alf (K := K) 0 0 2 hF hK (by omega) (by omega) (by omega) (fun o' h h' i hi => absurd h' (by omega)) (fun i hi => ?_) ?_ (Or.inl ⟨rfl, H _ _ 0 (by omega) (by omega) (fun i hi => ?_)⟩)
    · rw [h2 _ (by omega)]
      exact if_neg (by omega)
    · rw [h2 _ (by omega), pg_f2, if_pos (by omega)]
      decide
    · by_cases c2 : i = 48 * 0 + 2 * 2 ^ 0
      · rw [c2, pk_us]
        exact (if_neg (by omega)).symm
      · rw [pk_un c2, h2 i hi]
        unfold pg_f2
        by_cases c3 : i = 48
        · rw [if_pos (by omega), if_pos (by omega)]
        · rw [if_neg (by omega), if_neg (by omega)]
end
section
theorem pg_j89 {post : St2 → Prop} {fc uc cl : Int32} {a1 a2 a3 a4 a5 a6 a7 a8 a9 : Nat → Int32} {b : Nat} (hb : b < 16) (H : ∀ a3', (∀ p, p < 4 * b ∨ 4 * b + 4 ≤ p → a3' p = a3 p) → post (fc, uc, cl, a1, a2, a3', a4, a5, a6, a7, a8, a9)) : ∃ fu, wX_joinUp_89 post (nI b) fc uc cl fu 0 a1 a2 a3 a4 a5 a6 a7 a8 a9 :=
  pk_loop (fun n i s => wX_joinUp_89 post (nI b) fc uc cl n (nI i) a1 a2 s a4 a5 a6 a7 a8 a9) (fun _ s => ∀ p, p < 4 * b ∨ 4 * b + 4 ≤ p → s p = a3 p) 4 0 a3 (by omega) (fun _ _ => rfl)
    (fun n s h => pk_le 4 4 (fun _ => H s h) (fun z => absurd z (by omega)))
    (fun n i s hi h hw => pk_le 4 i (fun z => absurd z (by omega)) (fun _ => ⟨pk_in (4 * b + i) 64 (by omega) (pg_4k b i), nm_r (by rw [pk_cl _ (pg_4k b i) (by omega)]) (nm_r (nI_1 i) (hw _ (fun p hp => by
      rw [pk_un (by omega)]
      exact h p hp)))⟩))
theorem pg_nar1 : vp_nar .boolean 1 = 1 := by rfl
theorem pg_join {post : St2 → Prop} {fc uc cl : Int32} {a1 a2 a3 a4 a5 a6 a7 a8 a9 : Nat → Int32} {b : Nat} (hb : b < 16) (h7 : a7 b = 0) (h4 : a6 b = 15 → ∀ k, k < 4 → a4 (4 * b + k) = 1)
    (H0 : (a5 b = -1 ∨ ¬ a6 b = 15) → post (fc, uc, cl, a1, a2, a3, a4, a5, a6, a7, a8, a9))
    (H1 : ¬ a5 b = -1 → a6 b = 15 → ∀ a3', (∀ p, p < 4 * b ∨ 4 * b + 4 ≤ p → a3' p = a3 p) → post (fc, uc, cl, a1, a2, a3', a4, a5, a6, upd a7 b 1, upd a8 b 1, a9)) : wpX_joinUp post (fc, uc, cl, a1, a2, a3, a4, a5, a6, a7, a8, a9) (nI b) := by
  unfold wpX_joinUp
  have hcl : (nI b).toNatClampNeg = b := nI_clamp (by omega)
  rw [hcl]
  refine ⟨pk_in b 16 hb, br_c (fun z => H0 (Or.inl z)) (fun z5 => ⟨pk_in b 16 hb, br_c (fun z6 => ⟨pk_in b 16 hb, br_t h7 ?_⟩) (fun z6 => H0 (Or.inr z6))⟩)⟩
  have e0 : a4 (4 * nI b).toNatClampNeg = 1 := by
    rw [pk_cl _ (pg_4 b) (by omega)]
    exact h4 z6 0 (by omega)
  exact pk_loop (σ := Unit) (fun n i _ => wX_joinUp_33 post (nI b) fc uc cl a1 a2 a3 a4 a5 a6 a7 a8 a9 n (nI i)) (fun _ _ => True) 4 1 () (by omega) trivial
    (fun n _ _ => pk_le 4 4 (fun _ => ⟨pk_in b 16 hb, nm_r (by rw [hcl]) ⟨pk_in (4 * b) 64 (by omega) (pg_4 b), pk_in b 16 hb, nm_r (by rw [hcl, e0, pg_nar1]) (pg_j89 hb (H1 z5 z6))⟩⟩) (fun z => absurd z (by omega)))
    (fun n i _ hi _ hw => pk_le 4 i (fun z => absurd z (by omega)) (fun _ => ⟨pk_in (4 * b + i) 64 (by omega) (pg_4k b i), pk_in (4 * b) 64 (by omega) (pg_4 b), br_t (by rw [e0, pk_cl _ (pg_4k b i) (by omega)]; exact h4 z6 i hi) (nm_r (nI_1 i) (hw () trivial))⟩))
/-- frame v of the first block comes back, behind 0 .. v - 1 -/
theorem pg_gb {post : St2 → Prop} {fc uc cl : Int32} {a1 a2 a3 a4 a5 a6 a7 a8 a9 : Nat → Int32} {v : Nat} {y : Int32} (hv : v < 3) (hy : y = nI v) (h2 : ∀ i, i < 192 → a2 i = pg_f2 v 0 i) (H : ∀ a2', (∀ i, i < 192 → a2' i = pg_f2 (v + 1) 0 i) → post (fc, uc, cl, a1, a2', a3, a4, a5, a6, a7, a8, a9)) : wpX_giveBack post (fc, uc, cl, a1, a2, a3, a4, a5, a6, a7, a8, a9) y 0 := by
  subst hy
  have hv' : v = 0 ∨ v = 1 ∨ v = 2 := by omega
  unfold wpX_giveBack
  rcases hv' with rfl | rfl | rfl
  · refine ⟨1, br_f (by decide) (br_f (by decide) (nm_r (e' := nI 1) (by decide) ⟨pk_in 1 192 (by omega), br_t ?_ ⟨pk_in 0 192 (by omega), nm_r (e' := upd a2 0 1) (by rfl) (H _ (fun i hi => ?_))⟩⟩))⟩
    · exact (h2 1 (by omega)).trans (if_neg (by omega))
    · by_cases c : i = 0
      · rw [c, pk_us]
        exact (if_pos (by omega)).symm
      · rw [pk_un c, h2 i hi, pg_f2, pg_f2, if_neg (by omega), if_neg (by omega)]
  · refine ⟨2, br_f (by decide) (br_f (by decide) (nm_r (e' := nI 0) (by decide) ⟨pk_in 0 192 (by omega), br_f ?_ ⟨pk_in 0 192 (by omega), nm_r (e' := upd a2 0 0) (by rfl) (br_t (by decide) (nm_r (e' := nI 1) (by decide) (nm_r (e' := nI 1) (by decide) ?_)))⟩⟩))⟩
    · intro z
      have z' : a2 0 = 0 := z
      rw [h2 0 (by omega), pg_f2, if_pos (by omega)] at z'
      exact absurd z' (by decide)
    · refine br_f (by decide) (br_f (by decide) (nm_r (e' := nI 2) (by decide) ⟨pk_in 50 192 (by omega), br_t ?_ ⟨pk_in 48 192 (by omega), nm_r (e' := upd (upd a2 0 0) 48 1) (by rfl) (H _ (fun i hi => ?_))⟩⟩))
      · show upd a2 0 0 50 = 0
        rw [pk_un (by omega)]
        exact (h2 50 (by omega)).trans (if_neg (by omega))
      · by_cases c : i = 48
        · rw [c, pk_us]
          exact (if_pos (by omega)).symm
        · rw [pk_un c]
          by_cases c0 : i = 0
          · rw [c0, pk_us]
            exact (if_neg (by omega)).symm
          · rw [pk_un c0, h2 i hi, pg_f2, pg_f2, if_neg (by omega), if_neg (by omega)]
  · refine ⟨1, br_f (by decide) (br_f (by decide) (nm_r (e' := nI 3) (by decide) ⟨pk_in 3 192 (by omega), br_t ?_ ⟨pk_in 2 192 (by omega), nm_r (e' := upd a2 2 1) (by rfl) (H _ (fun i hi => ?_))⟩⟩))⟩
    · exact (h2 3 (by omega)).trans (if_neg (by omega))
    · by_cases c : i = 2
      · rw [c, pk_us]
        exact (if_pos (by omega)).symm
      · rw [pk_un c, h2 i hi]
        unfold pg_f2
        by_cases c3 : i = 48
        · rw [if_pos (by omega), if_pos (by omega)]
        · rw [if_neg (by omega), if_neg (by omega)]
theorem pg_pw : ∀ r, r < 4 → 1 ≤ r → ∀ k, k < 4 → (16 - 2 ^ r) / 2 ^ k % 2 = (if k < r then 0 else 1) := by decide +kernel
theorem pg_pw15 : ∀ r, r < 4 → 1 ≤ r → 16 - 2 ^ r < 15 ∧ 0 < 16 - 2 ^ r := by decide +kernel
theorem pg_67 {post : St2 → Prop} {fc uc cl : Int32} {a1 a2 a3 a4 a5 a6 a7 a8 a9 : Nat → Int32} {B r : Nat} (hB : B < 16) (hr1 : 1 ≤ r) (hr : r ≤ 3) (h5 : a5 B = nI 0) (h6 : a6 B = nI (16 - 2 ^ r)) (h2 : ∀ i, i < 192 → a2 i = 0)
    (H : ∀ a2', (∀ i, i < 192 → a2' i = pg_f2 r 0 i) → post (fc, uc, cl, a1, a2', a3, a4, upd a5 B (-1), a6, a7, a8, a9)) : ∃ fu, wX_preempt_67 post (nI B) fu 0 fc uc cl a1 a2 a3 a4 a5 a6 a7 a8 a9 := by
  have hcl : (nI B).toNatClampNeg = B := nI_clamp (by omega)
  have hm := pg_pw15 r (by omega) hr1
  refine pk_loop (fun n i s => wX_preempt_67 post (nI B) n (nI i) fc uc cl a1 s a3 a4 a5 a6 a7 a8 a9) (fun i s => ∀ x, x < 192 → s x = pg_f2 (if i < r then i else r) 0 x) 4 0 a2 (by omega) (fun x hx => ?_)
    (fun n s h => pk_le 4 4 (fun _ => ⟨pk_in B 16 hB, nm_r (by rw [hcl]) (H s (fun x hx => by have := h x hx; rw [if_neg (by omega)] at this; exact this))⟩) (fun z => absurd z (by omega)))
    (fun n i s hi h hw => pk_le 4 i (fun z => absurd z (by omega)) (fun _ => ⟨pk_in B 16 hB, ?_⟩))
  · rw [h2 x hx]
    exact (if_neg (by split <;> omega)).symm
  · have hb := pg_bit (16 - 2 ^ r) (by omega) i hi
    have hpw := pg_pw r (by omega) hr1 i hi
    rw [hcl, h6, hb, hpw]
    by_cases c : i < r
    · rw [if_pos c]
      refine br_t rfl ⟨pk_in B 16 hB, pg_gb (v := i) (by omega) (by rw [h5, nI_add, Nat.zero_add]) (fun x hx => ?_) (fun a2' ha => nm_r (nI_1 i) (hw a2' (fun x hx => ?_)))⟩
      · have := h x hx
        rw [if_pos c] at this
        exact this
      · rw [ha x hx]
        by_cases c2 : i + 1 < r
        · rw [if_pos c2]
        · rw [if_neg c2, show r = i + 1 by omega]
    · rw [if_neg c]
      refine br_f (by decide) (nm_r (nI_1 i) (hw s (fun x hx => ?_)))
      have := h x hx
      rw [if_neg c] at this
      rw [if_neg (by omega)]
      exact this
def pg_old (B i : Nat) : Int32 := if i ≤ B then -1 else nI B
/-- only block B has a reservation with empty frames: it loses it -/
theorem pg_pre {post : St2 → Prop} {fc uc cl : Int32} {a1 a2 a3 a4 a5 a6 a7 a8 a9 : Nat → Int32} {B r : Nat} (hB : B < 16) (hr1 : 1 ≤ r) (hr : r ≤ 3) (h5 : a5 B = nI 0) (h6 : a6 B = nI (16 - 2 ^ r)) (ho : ∀ b, b < 16 → b ≠ B → a5 b = -1 ∨ a6 b = 15) (h2 : ∀ i, i < 192 → a2 i = 0)
    (H : ∀ a2', (∀ i, i < 192 → a2' i = pg_f2 r 0 i) → post (fc, uc, cl, a1, a2', a3, a4, upd a5 B (-1), a6, a7, a8, a9)) : wpX_preempt post (fc, uc, cl, a1, a2, a3, a4, a5, a6, a7, a8, a9) := by
  have hm := pg_pw15 r (by omega) hr1
  unfold wpX_preempt
  obtain ⟨n, hn⟩ := pk_loop (σ := Unit) (fun n i _ => wX_preempt_4 post fc uc cl a1 a2 a3 a4 a5 a6 a7 a8 a9 n (pg_old B i) (nI i)) (fun _ _ => True) 16 0 () (by omega) trivial
    (fun n _ _ => pk_le 16 16 (fun _ => by
      rw [show pg_old B 16 = nI B from if_neg (by omega)]
      exact br_f (pg_nm1 (by omega)) (pg_67 hB hr1 hr h5 h6 h2 H)) (fun z => absurd z (by omega)))
    (fun n i _ hi _ hw => pk_le 16 i (fun z => absurd z (by omega)) (fun _ => ⟨pk_in i 16 hi, by
      rw [nI_clamp (show i < 2 ^ 31 by omega)]
      have hw' : wX_preempt_4 post fc uc cl a1 a2 a3 a4 a5 a6 a7 a8 a9 n (pg_old B (i + 1)) (nI (i + 1)) := hw () trivial
      by_cases c : i = B
      · subst c
        rw [show pg_old i (i + 1) = nI i from if_neg (by omega)] at hw'
        refine br_f (by rw [h5]; decide) ⟨pk_in i 16 hi, br_f ?_ (br_t (if_pos (Nat.le_refl i)) (nm_r (nI_1 i) hw'))⟩
        rw [h6]
        intro z
        exact absurd ((nI_eq (a := 16 - 2 ^ r) (b := 15) (by omega) (by omega)).mp z) (by omega)
      · have e : pg_old B (i + 1) = pg_old B i := by
          unfold pg_old
          by_cases c2 : i ≤ B
          · rw [if_pos c2, if_pos (by omega)]
          · rw [if_neg c2, if_neg (by omega)]
        rw [e] at hw'
        refine br_c (fun _ => nm_r (nI_1 i) hw') (fun z5 => ⟨pk_in i 16 hi, br_t ?_ (nm_r (nI_1 i) hw')⟩)
        exact (ho i hi c).resolve_left z5⟩))
  have hn' : wX_preempt_4 post fc uc cl a1 a2 a3 a4 a5 a6 a7 a8 a9 n (pg_old B 0) (nI 0) := hn
  rw [show pg_old B 0 = -1 from if_pos (by omega)] at hn'
  exact ⟨n, hn'⟩
end
section
/-- j pages from s on are mapped: so many blocks hold a reservation -/
def pg_T (s j : Nat) : Nat := if j = 0 then 0 else (s % 4 + j + 3) / 4
theorem pg_T_new {s j : Nat} (h : j = 0 ∨ (s + j) % 4 = 0) : pg_T s (j + 1) = pg_T s j + 1 := by
  unfold pg_T
  rw [if_neg (by omega)]
  split <;> omega
theorem pg_T_same {s j : Nat} (h0 : j ≠ 0) (h : (s + j) % 4 ≠ 0) : pg_T s (j + 1) = pg_T s j := by
  unfold pg_T
  rw [if_neg (by omega), if_neg h0]
  omega
theorem pg_T_at {s j : Nat} (h : j = 0 ∨ (s + j) % 4 = 0) : (s + j) / 4 = s / 4 + pg_T s j := by
  unfold pg_T
  split <;> omega
theorem pg_T_in {s j : Nat} (h0 : j ≠ 0) (h : (s + j) % 4 ≠ 0) : (s + j) / 4 < s / 4 + pg_T s j := by
  unfold pg_T
  rw [if_neg h0]
  omega
theorem pg_T_lt {F K s j : Nat} (hF : F = 8 * K) (h : j = 0 ∨ (s + j) % 4 = 0) (hK : 1 ≤ K) (hq : s % 4 + j < F) : 4 * pg_T s j < F ∧ 4 * pg_T s j + (s + j) % 4 < F := by
  unfold pg_T
  split <;> omega
theorem pg_T_full {F K s j : Nat} (hF : F = 8 * K) (hK : 1 ≤ K) (hq : s % 4 + j = F) : 4 * pg_T s j = F := by
  unfold pg_T
  rw [if_neg (by omega)]
  omega
/-- the free runs and the reservations, j pages from s on being mapped -/
def pg_FB (F s j : Nat) (a2 a5 : Nat → Int32) : Prop :=
  (s % 4 + j ≤ F ∧ (∀ i, i < 192 → a2 i = pg_f1 F (pg_T s j) i) ∧ (∀ b, b < 16 → a5 b = if s / 4 ≤ b ∧ b < s / 4 + pg_T s j then nI (4 * (b - s / 4)) else -1)) ∨
  (F < s % 4 + j ∧ (∃ c, c ≤ 1 ∧ ∀ i, i < 192 → a2 i = pg_f2 (F - j) c i) ∧ (∀ b, b < 16 → a5 b = if s / 4 < b ∧ b < s / 4 + F / 4 then nI (4 * (b - s / 4)) else -1))
/-- the rest of the state -/
def pg_R (s j : Nat) (a3 a4 a6 a7 a8 : Nat → Int32) : Prop :=
  (∀ b, b < 16 → a6 b = nI (pg_hm s (s + j) b)) ∧ (∀ b, b < 16 → a7 b = if s ≤ 4 * b ∧ 4 * b + 4 ≤ s + j then 1 else 0) ∧ (∀ b, b < 16 → s ≤ 4 * b → 4 * b + 4 ≤ s + j → a8 b = 1) ∧ (∀ p, s ≤ p → p < s + j → a4 p = 1) ∧ (0 < j → ¬ (s % 4 = 0 ∧ 4 ≤ j) → ∃ x, x < 48 ∧ a3 s = nI x)
theorem pg_R6 {s j : Nat} {a6 : Nat → Int32} (h6 : ∀ b, b < 16 → a6 b = nI (pg_hm s (s + j) b)) : ∀ b, b < 16 → upd a6 ((s + j) / 4) (nI (pg_hm s (s + (j + 1)) ((s + j) / 4))) b = nI (pg_hm s (s + (j + 1)) b) := by
  intro b hb
  by_cases c : b = (s + j) / 4
  · rw [c, pk_us]
  · rw [pk_un c, h6 b hb]
    exact congrArg nI (pg_hm_same c).symm
theorem pg_R4 {s j : Nat} {a4 : Nat → Int32} (h4 : ∀ p, s ≤ p → p < s + j → a4 p = 1) : ∀ p, s ≤ p → p < s + (j + 1) → upd a4 (s + j) 1 p = 1 := by
  intro p h1 h2
  by_cases c : p = s + j
  · rw [c, pk_us]
  · rw [pk_un c]
    exact h4 p h1 (by omega)
theorem pg_Ra {s j x : Nat} {a3 a4 a6 a7 a8 : Nat → Int32} (hR : pg_R s j a3 a4 a6 a7 a8) (hx : x < 48) (hn : ¬ (s ≤ 4 * ((s + j) / 4) ∧ 4 * ((s + j) / 4) + 4 ≤ s + (j + 1))) :
    pg_R s (j + 1) (upd a3 (s + j) (nI x)) (upd a4 (s + j) 1) (upd a6 ((s + j) / 4) (nI (pg_hm s (s + (j + 1)) ((s + j) / 4)))) a7 a8 := by
  obtain ⟨h6, h7, h8, h4, h3⟩ := hR
  refine ⟨pg_R6 h6, fun b hb => ?_, fun b hb h1 h2 => ?_, pg_R4 h4, fun _ h2 => ?_⟩
  · rw [h7 b hb]
    by_cases c : s ≤ 4 * b ∧ 4 * b + 4 ≤ s + j
    · rw [if_pos c, if_pos (by omega)]
    · rw [if_neg c, if_neg ?_]
      intro z
      have : b = (s + j) / 4 := by omega
      subst this
      exact hn z
  · refine h8 b hb h1 ?_
    by_cases c : b = (s + j) / 4
    · subst c
      exact absurd ⟨h1, h2⟩ hn
    · omega
  · by_cases c : j = 0
    · subst c
      exact ⟨x, hx, pk_us⟩
    · obtain ⟨y, hy, e⟩ := h3 (by omega) (by omega)
      exact ⟨y, hy, by rw [pk_un (by omega)]; exact e⟩
theorem pg_Rb {s j x : Nat} {a3 a3' a4 a6 a7 a8 : Nat → Int32} (hR : pg_R s j a3 a4 a6 a7 a8) (hn : s ≤ 4 * ((s + j) / 4) ∧ 4 * ((s + j) / 4) + 4 ≤ s + (j + 1)) (ha : ∀ p, p < 4 * ((s + j) / 4) ∨ 4 * ((s + j) / 4) + 4 ≤ p → a3' p = upd a3 (s + j) (nI x) p) :
    pg_R s (j + 1) a3' (upd a4 (s + j) 1) (upd a6 ((s + j) / 4) (nI (pg_hm s (s + (j + 1)) ((s + j) / 4)))) (upd a7 ((s + j) / 4) 1) (upd a8 ((s + j) / 4) 1) := by
  obtain ⟨h6, h7, h8, h4, h3⟩ := hR
  refine ⟨pg_R6 h6, fun b hb => ?_, fun b hb h1 h2 => ?_, pg_R4 h4, fun _ h2 => ?_⟩
  · by_cases c : b = (s + j) / 4
    · rw [c, pk_us, if_pos hn]
    · rw [pk_un c, h7 b hb]
      by_cases c2 : s ≤ 4 * b ∧ 4 * b + 4 ≤ s + j
      · rw [if_pos c2, if_pos (by omega)]
      · rw [if_neg c2, if_neg (by omega)]
  · by_cases c : b = (s + j) / 4
    · rw [c, pk_us]
    · rw [pk_un c]
      exact h8 b hb h1 (by omega)
  · obtain ⟨y, hy, e⟩ := h3 (by omega) (by omega)
    refine ⟨y, hy, ?_⟩
    rw [ha s (by omega), pk_un (by omega)]
    exact e
/-- a frame is found: the page is entered, and the block joined if it is whole -/
theorem pg_78 {post : St2 → Prop} {fc cl : Int32} {a1 a2 a3 a4 a5 a6 a7 a8 a9 : Nat → Int32} {s j x : Nat} {y : Int32} (hs : s + j < 64) (hx : x < 48) (hR : pg_R s j a3 a4 a6 a7 a8)
    (h5 : a5 ((s + j) / 4) = -1 → ¬ (s ≤ 4 * ((s + j) / 4) ∧ 4 * ((s + j) / 4) + 4 ≤ s + (j + 1))) (hy : y = nI x)
    (H : ∀ cl' a1' a3' a4' a6' a7' a8' a9', pg_R s (j + 1) a3' a4' a6' a7' a8' → post (fc, nI (j + 1), cl', a1', a2, a3', a4', a5, a6', a7', a8', a9')) :
    wX_bringIn_78 post (nI (s + j)) 1 0 (nI ((s + j) / 4)) y fc (nI j) cl a1 a2 a3 a4 a5 a6 a7 a8 a9 := by
  subst hy
  have hb : (s + j) / 4 < 16 := by omega
  have cp : (nI (s + j)).toNatClampNeg = s + j := nI_clamp (by omega)
  have cb : (nI ((s + j) / 4)).toNatClampNeg = (s + j) / 4 := nI_clamp (by omega)
  have e6 := hR.1 _ hb
  have e6' : a6 ((s + j) / 4) ||| ((1 : Int32) <<< ((nI (s + j) &&& 3) &&& 31)) = nI (pg_hm s (s + (j + 1)) ((s + j) / 4)) := by
    rw [e6, pg_an3 (by omega), pg_or _ (pg_hm_lt _ _ _) _ (by omega) (pg_hm_bit0 (Or.inr (Nat.le_refl _)))]
    exact congrArg nI (pg_hm_new (by omega)).symm
  have hlt := pg_hm_lt s (s + (j + 1)) ((s + j) / 4)
  have hfull : nI (pg_hm s (s + (j + 1)) ((s + j) / 4)) = 15 ↔ (s ≤ 4 * ((s + j) / 4) ∧ 4 * ((s + j) / 4) + 4 ≤ s + (j + 1)) :=
    (nI_eq (a := pg_hm s (s + (j + 1)) ((s + j) / 4)) (b := 15) (by omega) (by omega)).trans pg_hm_15
  unfold wX_bringIn_78
  refine br_f (pg_nm1 (by omega)) ⟨pk_in (s + j) 64 hs, nm_r (e' := upd a3 (s + j) (nI x)) (by rw [cp]) ⟨pk_in (s + j) 64 hs, nm_r (e' := upd a4 (s + j) 1) (by rw [cp, pg_nar1]) ⟨pk_in x 48 hx, nm_r (e' := upd a1 x 0) (by rw [nI_clamp (show x < 2 ^ 31 by omega)]) ⟨pk_in _ 16 hb, pk_in _ 16 hb, nm_r (e' := upd a6 ((s + j) / 4) (nI (pg_hm s (s + (j + 1)) ((s + j) / 4)))) (by rw [cb, e6']) (nm_r (nI_1 j) ?_)⟩⟩⟩⟩
  refine pg_use hb (fun cl' a9' => ?_)
  refine pg_join hb ?_ ?_ (fun z => H _ _ _ _ _ _ _ _ (pg_Ra hR hx ?_)) (fun z5 z6 a3' h3' => H _ _ _ _ _ _ _ _ (pg_Rb hR ?_ h3'))
  · rw [hR.2.1 _ hb]
    exact if_neg (by omega)
  · intro z k hk
    rw [pk_us] at z
    have hf := hfull.mp z
    exact pg_R4 hR.2.2.2.1 _ (by omega) (by omega)
  · rcases z with z | z
    · exact h5 z
    · rw [pk_us] at z
      exact fun t => z (hfull.mpr t)
  · rw [pk_us] at z6
    exact hfull.mp z6
theorem pg_27a {post : St2 → Prop} {fc cl : Int32} {a1 a2 a3 a4 a5 a6 a7 a8 a9 : Nat → Int32} {s j z : Nat} (hs : s + j < 64) (hz : a5 ((s + j) / 4) = nI z) (hx : z + (s + j) % 4 < 48) (hR : pg_R s j a3 a4 a6 a7 a8)
    (H : ∀ cl' a1' a3' a4' a6' a7' a8' a9', pg_R s (j + 1) a3' a4' a6' a7' a8' → post (fc, nI (j + 1), cl', a1', a2, a3', a4', a5, a6', a7', a8', a9')) :
    wX_bringIn_27 post (nI (s + j)) 1 0 (nI ((s + j) / 4)) fc (nI j) cl a1 a2 a3 a4 a5 a6 a7 a8 a9 := by
  have hb : (s + j) / 4 < 16 := by omega
  unfold wX_bringIn_27
  rw [nI_clamp (show (s + j) / 4 < 2 ^ 31 by omega), hz]
  exact ⟨pk_in _ 16 hb, br_f (pg_nm1 (by omega)) ⟨pk_in _ 16 hb, nm_r (e' := nI (z + (s + j) % 4)) (by rw [pg_an3 (by omega), nI_add]) (pg_78 hs hx hR (fun e => absurd (hz.symm.trans e) (pg_nm1 (by omega))) rfl H)⟩⟩
theorem pg_27b {post : St2 → Prop} {cl : Int32} {a1 a2 a3 a4 a5 a6 a7 a8 a9 : Nat → Int32} {F K s j v c : Nat} (hF : F = 8 * K) (hK1 : 1 ≤ K) (hK : K ≤ 6) (hs : s + j < 64) (hz : a5 ((s + j) / 4) = -1) (hn : ¬ (s ≤ 4 * ((s + j) / 4) ∧ 4 * ((s + j) / 4) + 4 ≤ s + (j + 1))) (hv1 : 1 ≤ v) (hv : v ≤ 3) (hc : c ≤ 1) (h2 : ∀ i, i < 192 → a2 i = pg_f2 v c i) (hR : pg_R s j a3 a4 a6 a7 a8)
    (H : ∀ cl' a1' a2' a3' a4' a6' a7' a8' a9', (∃ c, c ≤ 1 ∧ ∀ i, i < 192 → a2' i = pg_f2 (v - 1) c i) → pg_R s (j + 1) a3' a4' a6' a7' a8' → post (nI F, nI (j + 1), cl', a1', a2', a3', a4', a5, a6', a7', a8', a9')) :
    wX_bringIn_27 post (nI (s + j)) 1 0 (nI ((s + j) / 4)) (nI F) (nI j) cl a1 a2 a3 a4 a5 a6 a7 a8 a9 := by
  have hb : (s + j) / 4 < 16 := by omega
  unfold wX_bringIn_27
  rw [nI_clamp (show (s + j) / 4 < 2 ^ 31 by omega), hz]
  refine ⟨pk_in _ 16 hb, br_t rfl (pg_al0 hF hK1 hK hv1 hv hc h2 (fun x a2' c' hx hc' h2' => br_f (pg_nm1 (by omega)) (pg_78 hs hx hR (fun _ => hn) rfl (fun cl' a1' a3' a4' a6' a7' a8' a9' hR' => H cl' a1' a2' a3' a4' a6' a7' a8' a9' ⟨c', hc', h2'⟩ hR'))))⟩
theorem pg_27c {post : St2 → Prop} {cl : Int32} {a1 a2 a3 a4 a5 a6 a7 a8 a9 : Nat → Int32} {F K s j : Nat} (hF : F = 8 * K) (hK1 : 1 ≤ K) (hK : K ≤ 6) (hs : s + j < 64) (hz : a5 ((s + j) / 4) = -1) (hn : ¬ (s ≤ 4 * ((s + j) / 4) ∧ 4 * ((s + j) / 4) + 4 ≤ s + (j + 1))) (hr1 : 1 ≤ s % 4) (hB5 : a5 (s / 4) = nI 0) (hB6 : 4 * (s / 4) + 4 ≤ s + j)
    (ho : ∀ b, b < 16 → b ≠ s / 4 → a5 b = -1 ∨ a6 b = 15) (h2 : ∀ i, i < 192 → a2 i = 0) (hR : pg_R s j a3 a4 a6 a7 a8)
    (H : ∀ cl' a1' a2' a3' a4' a6' a7' a8' a9', (∃ c, c ≤ 1 ∧ ∀ i, i < 192 → a2' i = pg_f2 (s % 4 - 1) c i) → pg_R s (j + 1) a3' a4' a6' a7' a8' → post (nI F, nI (j + 1), cl', a1', a2', a3', a4', upd a5 (s / 4) (-1), a6', a7', a8', a9')) :
    wX_bringIn_27 post (nI (s + j)) 1 0 (nI ((s + j) / 4)) (nI F) (nI j) cl a1 a2 a3 a4 a5 a6 a7 a8 a9 := by
  have hb : (s + j) / 4 < 16 := by omega
  have e6 : a6 (s / 4) = nI (16 - 2 ^ (s % 4)) := by
    rw [hR.1 _ (by omega), pg_hm_first hB6]
  unfold wX_bringIn_27
  rw [nI_clamp (show (s + j) / 4 < 2 ^ 31 by omega), hz]
  refine ⟨pk_in _ 16 hb, br_t rfl (pg_al0n hF hK h2 (br_t rfl (pg_pre (B := s / 4) (r := s % 4) (by omega) hr1 (by omega) hB5 e6 ho h2 (fun a2' h2' => pg_al0 hF hK1 hK hr1 (by omega) (Nat.zero_le 1) h2' (fun x a2'' c' hx hc' h2'' => pg_78 hs hx hR (fun _ => hn) rfl (fun cl' a1' a3' a4' a6' a7' a8' a9' hR' => H cl' a1' a2'' a3' a4' a6' a7' a8' a9' ⟨c', hc', h2''⟩ hR'))))))⟩
end
section
/-- one more page: it always gets a frame -/
theorem pg_bring {post : St2 → Prop} {cl : Int32} {a1 a2 a3 a4 a5 a6 a7 a8 a9 : Nat → Int32} {F K s j : Nat} (hF : F = 8 * K) (hK1 : 1 ≤ K) (hK : K ≤ 6) (hj : j < F) (hs : s + j < 64) (hB : pg_FB F s j a2 a5) (hR : pg_R s j a3 a4 a6 a7 a8)
    (H : ∀ cl' a1' a2' a3' a4' a5' a6' a7' a8' a9', pg_FB F s (j + 1) a2' a5' → pg_R s (j + 1) a3' a4' a6' a7' a8' → post (nI F, nI (j + 1), cl', a1', a2', a3', a4', a5', a6', a7', a8', a9')) :
    wpX_bringIn post (nI F, nI j, cl, a1, a2, a3, a4, a5, a6, a7, a8, a9) (nI (s + j)) 1 0 := by
  have hb : (s + j) / 4 < 16 := by omega
  have h6 := hR.1 _ hb
  unfold wpX_bringIn
  refine nm_r (pg_sh2 (by omega)) ⟨pk_in _ 16 hb, ?_⟩
  rw [nI_clamp (show (s + j) / 4 < 2 ^ 31 by omega), h6]
  rcases hB with ⟨hq, h2, h5⟩ | ⟨hq, ⟨c, hc, h2⟩, h5⟩
  · by_cases hnew : j = 0 ∨ (s + j) % 4 = 0
    · rw [show pg_hm s (s + j) ((s + j) / 4) = 0 from pg_hm_0 (by omega)]
      have hat := pg_T_at hnew
      refine br_t rfl ?_
      by_cases hlt : s % 4 + j < F
      · have hT := pg_T_lt hF hnew hK1 hlt
        refine pg_al2 hF hK hT.1 h2 (fun a2' h2' => ⟨pk_in _ 16 hb, nm_e (pg_27a (z := 4 * pg_T s j) hs pk_us (by omega) hR (fun cl' a1' a3' a4' a6' a7' a8' a9' hR' => H _ _ _ _ _ _ _ _ _ _ (Or.inl ⟨by omega, ?_, fun b hb' => ?_⟩) hR'))⟩)
        · rw [pg_T_new hnew]
          exact h2'
        · rw [pg_T_new hnew]
          by_cases cb : b = (s + j) / 4
          · rw [cb, pk_us, if_pos (by omega)]
            exact congrArg nI (by omega)
          · rw [pk_un cb, h5 b hb']
            by_cases ci : s / 4 ≤ b ∧ b < s / 4 + pg_T s j
            · rw [if_pos ci, if_pos (by omega)]
            · rw [if_neg ci, if_neg (by omega)]
      · have hqe : s % 4 + j = F := by omega
        have hT := pg_T_full hF hK1 hqe
        have hz : ∀ i, i < 192 → a2 i = 0 := fun i hi => (h2 i hi).trans (pg_f1_full hF hT)
        refine pg_al2n hF hK hz ⟨pk_in _ 16 hb, nm_e (pg_27c hF hK1 hK hs pk_us (by omega) (by omega) ?_ (by omega) (fun b hb' hne => ?_) hz hR (fun cl' a1' a2' a3' a4' a6' a7' a8' a9' h2' hR' => H _ _ _ _ _ _ _ _ _ _ (Or.inr ⟨by omega, ?_, fun b hb' => ?_⟩) hR'))⟩
        · rw [pk_un (by omega), h5 _ (by omega), if_pos (by omega), Nat.sub_self]
        · by_cases cb : b = (s + j) / 4
          · rw [cb, pk_us]
            exact Or.inl rfl
          · rw [pk_un cb, h5 b hb']
            by_cases ci : s / 4 ≤ b ∧ b < s / 4 + pg_T s j
            · refine Or.inr ?_
              rw [hR.1 b hb', pg_hm_15.mpr (by omega)]
              rfl
            · rw [if_neg ci]
              exact Or.inl rfl
        · rw [show F - (j + 1) = s % 4 - 1 by omega]
          exact h2'
        · by_cases cB : b = s / 4
          · rw [cB, pk_us, if_neg (by omega)]
          · rw [pk_un cB]
            by_cases cb : b = (s + j) / 4
            · rw [cb, pk_us, if_neg (by omega)]
            · rw [pk_un cb, h5 b hb']
              by_cases ci : s / 4 ≤ b ∧ b < s / 4 + pg_T s j
              · rw [if_pos ci, if_pos (by omega)]
              · rw [if_neg ci, if_neg (by omega)]
    · have hn0 : pg_hm s (s + j) ((s + j) / 4) ≠ 0 := by
        have := pg_hm_n0 (lo := s) (hi := s + j) (p := s + j - 1) (by omega) (by omega)
        rw [show (s + j - 1) / 4 = (s + j) / 4 by omega] at this
        exact this
      have hlt := pg_hm_lt s (s + j) ((s + j) / 4)
      have hin := pg_T_in (s := s) (j := j) (by omega) (by omega)
      refine br_f (nI_ne0 (by omega) (by omega)) (pg_27a (z := 4 * ((s + j) / 4 - s / 4)) hs ?_ (by omega) hR (fun cl' a1' a3' a4' a6' a7' a8' a9' hR' => H _ _ _ _ _ _ _ _ _ _ (Or.inl ⟨by omega, ?_, ?_⟩) hR'))
      · rw [h5 _ hb, if_pos (by omega)]
      · rw [pg_T_same (by omega) (by omega)]
        exact h2
      · rw [pg_T_same (by omega) (by omega)]
        exact h5
  · have hn0 : pg_hm s (s + j) ((s + j) / 4) ≠ 0 := by
      have := pg_hm_n0 (lo := s) (hi := s + j) (p := s + j - 1) (by omega) (by omega)
      rw [show (s + j - 1) / 4 = (s + j) / 4 by omega] at this
      exact this
    have hlt := pg_hm_lt s (s + j) ((s + j) / 4)
    refine br_f (nI_ne0 (by omega) (by omega)) (pg_27b (v := F - j) hF hK1 hK hs ?_ (by omega) (by omega) (by omega) hc h2 hR (fun cl' a1' a2' a3' a4' a6' a7' a8' a9' h2' hR' => H _ _ _ _ _ _ _ _ _ _ (Or.inr ⟨by omega, ?_, h5⟩) hR'))
    · rw [h5 _ hb, if_neg (by omega)]
    · rw [show F - (j + 1) = F - j - 1 by omega]
      exact h2'
theorem pg_83 {post : Int32 → St2 → Prop} {F K s c : Nat} (hF : F = 8 * K) (hK1 : 1 ≤ K) (hK : K ≤ 6) (hc : c ≤ F) (hs : s + c ≤ 64)
    (H : ∀ cl a1 a2 a3 a4 a5 a6 a7 a8 a9, pg_FB F s c a2 a5 → pg_R s c a3 a4 a6 a7 a8 → post (nI c) (nI F, nI c, cl, a1, a2, a3, a4, a5, a6, a7, a8, a9)) :
    ∀ (d j : Nat), j + d = c → ∀ (cl : Int32) (a1 a2 a3 a4 a5 a6 a7 a8 a9 : Nat → Int32), pg_FB F s j a2 a5 → pg_R s j a3 a4 a6 a7 a8 → wX_map_83 post (nI c) (nI s) (nI c) (d + 1) (nI (s + j)) (nI F) (nI j) cl a1 a2 a3 a4 a5 a6 a7 a8 a9 := by
  intro d
  induction d with
  | zero =>
    intro j hj cl a1 a2 a3 a4 a5 a6 a7 a8 a9 hB hR
    have : j = c := by omega
    subst this
    exact pk_le (s + j) (s + j) (fun _ => H _ _ _ _ _ _ _ _ _ _ hB hR) (fun z => absurd z (by omega)) (nI_add s j)
  | succ d ih =>
    intro j hj cl a1 a2 a3 a4 a5 a6 a7 a8 a9 hB hR
    refine pk_le (s + c) (s + j) (fun z => absurd z (by omega)) (fun _ => ?_) (nI_add s c)
    refine pg_has (p := s + j) (by omega) (pg_hm_lt _ _ _) (hR.1 _ (by omega)) (fun z => ?_) (fun _ => ?_)
    · rw [pg_hm_bit0 (Or.inr (Nat.le_refl _))] at z
      exact absurd z (by omega)
    · exact br_t rfl (pg_bring hF hK1 hK (by omega) (by omega) hB hR (fun cl' a1' a2' a3' a4' a5' a6' a7' a8' a9' hB' hR' => nm_r (nI_1 (s + j)) (ih (j + 1) (by omega) _ _ _ _ _ _ _ _ _ _ hB' hR')))
theorem pg_35 {post : Int32 → St2 → Prop} {fc uc cl : Int32} {a1 a2 a3 a4 a5 a6 a7 a8 a9 : Nat → Int32} {s c : Nat} (hs : s + c ≤ 64) (h6 : ∀ b, b < 16 → a6 b = nI 0)
    (H : ((uc + nI c) ≤ fc → (∃ fu83 : Nat, wX_map_83 post (nI c) (nI s) (nI c) fu83 (nI s) fc uc cl a1 a2 a3 a4 a5 a6 a7 a8 a9)) ∧ (¬ (uc + nI c) ≤ fc → (post (-3) (fc, uc, cl, a1, a2, a3, a4, a5, a6, a7, a8, a9)))) : ∃ fu, wX_map_35 post (nI c) (nI s) fc uc cl a1 a2 a3 a4 a5 a6 a7 a8 a9 fu 0 (nI s) :=
  pk_loop (σ := Unit) (fun n i _ => wX_map_35 post (nI c) (nI s) fc uc cl a1 a2 a3 a4 a5 a6 a7 a8 a9 n (nI i) (nI (s + i))) (fun _ _ => True) c 0 () (Nat.zero_le _) trivial
    (fun n _ _ => pk_le (s + c) (s + c) (fun _ => H) (fun z => absurd z (by omega)) (nI_add s c))
    (fun n i _ hi _ hw => pk_le (s + c) (s + i) (fun z => absurd z (by omega)) (fun _ => pg_has (p := s + i) (m := 0) (by omega) (by omega) (h6 _ (by omega)) (fun z => absurd z (by rw [Nat.zero_div]; omega)) (fun _ => br_t rfl (nm_r (nI_1 i) (nm_r (nI_1 (s + i)) (hw () trivial))))) (nI_add s c))
theorem pg_space {post : Int32 → Prop} {x : Int32} (h1 : (x = 0 ∨ x = 1) → post 1) (h0 : ¬ (x = 0 ∨ x = 1) → post 0) : wpX_isSpace post () x :=
  br_c (fun z => h1 (Or.inl z)) (fun z => br_c (fun z' => h1 (Or.inr z')) (fun z' => h0 (fun t => t.elim z z')))
def pg_good (p c : Int32) : Prop := ¬ c < 1 ∧ ¬ 32 < c ∧ ¬ p < 0 ∧ ¬ (32 - c) < p
theorem pg_range {post : Int32 → Prop} {p c : Int32} (h1 : pg_good p c → post 1) (h0 : ¬ pg_good p c → post 0) : wpX_isRange post () p c :=
  br_c (fun z => h0 (fun t => t.1 z)) (fun z1 => br_c (fun z => h0 (fun t => t.2.1 z)) (fun z2 => br_c (fun z => h0 (fun t => t.2.2.1 z)) (fun z3 => br_c (fun z => h0 (fun t => t.2.2.2 z)) (fun z4 => h1 ⟨z1, z2, z3, z4⟩))))
def pg_inside (p : Int32) : Prop := ¬ p < 0 ∧ ¬ 32 ≤ p
theorem pg_page {post : Int32 → Prop} {p : Int32} (h1 : pg_inside p → post 1) (h0 : ¬ pg_inside p → post 0) : wpX_isPage post () p :=
  br_c (fun z => h0 (fun t => t.1 z)) (fun z1 => br_c (fun z => h0 (fun t => t.2 z)) (fun z2 => h1 ⟨z1, z2⟩))
theorem pg_known {x : Int32} (h : x = 0 ∨ x = 1) : ∃ t : Nat, t ≤ 1 ∧ x = nI t :=
  h.elim (fun e => ⟨0, by omega, e⟩) (fun e => ⟨1, by omega, e⟩)
theorem pg_in_n {p : Int32} (h : pg_inside p) : ∃ g : Nat, g < 32 ∧ p = nI g := by
  rcases pk_ix p (n := 32) (by omega) with z | z | ⟨g, hg, e⟩
  · exact absurd z h.1
  · exact absurd z h.2
  · exact ⟨g, hg, e⟩
theorem pg_good_n {p c : Int32} (h : pg_good p c) : ∃ g k : Nat, 1 ≤ k ∧ g + k ≤ 32 ∧ p = nI g ∧ c = nI k := by
  obtain ⟨h1, h2, h3, h4⟩ := h
  rcases pk_ix c (n := 33) (by omega) with z | z | ⟨k, hk, e⟩
  · exact absurd (show c < 1 by rw [Int32.lt_iff_toInt_lt] at z ⊢; have a : (0 : Int32).toInt = 0 := by decide
                                have b : (1 : Int32).toInt = 1 := by decide
                                omega) h1
  · exact absurd (show 32 < c by rw [Int32.le_iff_toInt_le] at z; rw [Int32.lt_iff_toInt_lt]; have a : (nI 33).toInt = 33 := by decide
                                 have b : (32 : Int32).toInt = 32 := by decide
                                 omega) h2
  · subst e
    obtain ⟨g, hg, e⟩ := nI_of h3
    subst e
    have hk1 : 1 ≤ k := by
      rcases Nat.eq_zero_or_pos k with z | z
      · subst z
        exact absurd (by decide) h1
      · exact z
    refine ⟨g, k, hk1, ?_, rfl, rfl⟩
    rw [show (32 : Int32) - nI k = nI (32 - k) from pk_sub (a := 32) (by omega)] at h4
    rcases Nat.lt_or_ge (32 - k) g with z | z
    · exact absurd (nI_lt z hg) h4
    · omega
/-- map in the four cases, over the fresh store -/
theorem pg_map1 {post : Int32 → St2 → Prop} {fc uc cl : Int32} {a1 a2 a3 a4 a5 a6 a7 a8 a9 : Nat → Int32} {x1 x2 x3 : Int32} (h : ¬ (x1 = 0 ∨ x1 = 1)) (H : post (-1) (fc, uc, cl, a1, a2, a3, a4, a5, a6, a7, a8, a9)) : wpX_map post (fc, uc, cl, a1, a2, a3, a4, a5, a6, a7, a8, a9) x1 x2 x3 := by
  unfold wpX_map
  exact pg_space (fun z => absurd z h) (fun _ => br_t rfl H)
theorem pg_map2 {post : Int32 → St2 → Prop} {fc uc cl : Int32} {a1 a2 a3 a4 a5 a6 a7 a8 a9 : Nat → Int32} {x1 x2 x3 : Int32} (h : x1 = 0 ∨ x1 = 1) (h2 : ¬ pg_good x2 x3) (H : post (-2) (fc, uc, cl, a1, a2, a3, a4, a5, a6, a7, a8, a9)) : wpX_map post (fc, uc, cl, a1, a2, a3, a4, a5, a6, a7, a8, a9) x1 x2 x3 := by
  unfold wpX_map
  exact pg_space (fun _ => br_f (by decide) (pg_range (fun z => absurd z h2) (fun _ => br_t rfl H))) (fun z => absurd h z)
theorem pg_32 (t g : Nat) : 32 * nI t + nI g = nI (32 * t + g) := by
  rw [show (32 : Int32) = nI 32 from rfl, pk_mul, nI_add]
theorem pg_map34 {post : Int32 → St2 → Prop} {cl : Int32} {a1 a2 a3 a4 a5 a6 a7 a8 a9 : Nat → Int32} {x1 x2 x3 : Int32} {F t g c : Nat} (ht : t ≤ 1) (e1 : x1 = nI t) (hg : pg_good x2 x3) (e2 : x2 = nI g) (e3 : x3 = nI c) (hc : g + c ≤ 32) (h6 : ∀ b, b < 16 → a6 b = nI 0)
    (H : (c ≤ F → (∃ fu83 : Nat, wX_map_83 post (nI c) (nI (32 * t + g)) (nI c) fu83 (nI (32 * t + g)) (nI F) (nI 0) cl a1 a2 a3 a4 a5 a6 a7 a8 a9)) ∧ (F < c → post (-3) (nI F, nI 0, cl, a1, a2, a3, a4, a5, a6, a7, a8, a9))) (hF : F ≤ 48) : wpX_map post (nI F, nI 0, cl, a1, a2, a3, a4, a5, a6, a7, a8, a9) x1 x2 x3 := by
  unfold wpX_map
  refine pg_space (fun _ => br_f (by decide) (pg_range (fun _ => br_f (by decide) ?_) (fun z => absurd hg z))) (fun z => absurd ?_ z)
  · subst e1 e2 e3
    exact nm_r (pg_32 t g) (pg_35 (by omega) h6 (pk_le c F H.1 H.2 (by rw [nI_add, Nat.zero_add])))
  · rcases Nat.eq_zero_or_pos t with z | z
    · subst z
      exact Or.inl e1
    · have : t = 1 := by omega
      subst this
      exact Or.inr e1
end
section
/-- the answer of write and nextMapped where nothing is mapped -/
def pg_ans (x1 x2 z : Int32) : Prop := (¬ (x1 = 0 ∨ x1 = 1) → z = -1) ∧ ((x1 = 0 ∨ x1 = 1) → ¬ pg_inside x2 → z = -2) ∧ ((x1 = 0 ∨ x1 = 1) → pg_inside x2 → z = -3)
theorem pg_ans_ne {x1 x2 z : Int32} (h : pg_ans x1 x2 z) : ¬ z = 0 := by
  by_cases c : x1 = 0 ∨ x1 = 1
  · by_cases d : pg_inside x2
    · rw [h.2.2 c d]
      decide
    · rw [h.2.1 c d]
      decide
  · rw [h.1 c]
    decide
theorem pg_has0 {post : Int32 → Prop} {fc uc cl : Int32} {a1 a2 a3 a4 a5 a6 a7 a8 a9 : Nat → Int32} {p : Nat} (hp : p < 64) (h6 : ∀ b, b < 16 → a6 b = nI 0) (H : post 0) : wpX_has post (fc, uc, cl, a1, a2, a3, a4, a5, a6, a7, a8, a9) (nI p) :=
  pg_has (m := 0) hp (by omega) (h6 _ (by omega)) (fun z => absurd z (by rw [Nat.zero_div]; omega)) (fun _ => H)
theorem pg_wf {post : Int32 → St2 → Prop} {fc uc cl : Int32} {a1 a2 a3 a4 a5 a6 a7 a8 a9 : Nat → Int32} {x1 x2 x4 z : Int32} (h6 : ∀ b, b < 16 → a6 b = nI 0) (hz : pg_ans x1 x2 z) (H : post z (fc, uc, cl, a1, a2, a3, a4, a5, a6, a7, a8, a9)) : wpX_write post (fc, uc, cl, a1, a2, a3, a4, a5, a6, a7, a8, a9) x1 x2 x4 := by
  unfold wpX_write
  refine pg_space (fun k => br_f (by decide) (pg_page (fun i => br_f (by decide) ?_) (fun i => br_t rfl ?_))) (fun k => br_t rfl ?_)
  · obtain ⟨t, ht, e1⟩ := pg_known k
    obtain ⟨g, hg, e2⟩ := pg_in_n i
    have ez := hz.2.2 k i
    subst e1 e2 ez
    exact nm_r (pg_32 t g) (pg_has0 (by omega) h6 (br_t rfl H))
  · have ez := hz.2.1 k i
    subst ez
    exact H
  · have ez := hz.1 k
    subst ez
    exact H
theorem pg_rf {post : Int32 → Prop} {fc uc cl : Int32} {a1 a2 a3 a4 a5 a6 a7 a8 a9 : Nat → Int32} {x1 x2 : Int32} (h6 : ∀ b, b < 16 → a6 b = nI 0) (H : post 0) : wpX_read post (fc, uc, cl, a1, a2, a3, a4, a5, a6, a7, a8, a9) x1 x2 := by
  unfold wpX_read
  refine pg_space (fun k => br_f (by decide) (pg_page (fun i => br_f (by decide) ?_) (fun i => br_t rfl H))) (fun k => br_t rfl H)
  obtain ⟨t, ht, e1⟩ := pg_known k
  obtain ⟨g, hg, e2⟩ := pg_in_n i
  subst e1 e2
  exact nm_r (pg_32 t g) (pg_has0 (by omega) h6 (br_t rfl H))
theorem pg_nf {post : Int32 → Prop} {fc uc cl : Int32} {a1 a2 a3 a4 a5 a6 a7 a8 a9 : Nat → Int32} {x1 x2 z : Int32} (h6 : ∀ b, b < 16 → a6 b = nI 0) (hz : pg_ans x1 x2 z) (H : post z) : wpX_nextMapped post (fc, uc, cl, a1, a2, a3, a4, a5, a6, a7, a8, a9) x1 x2 := by
  unfold wpX_nextMapped
  refine pg_space (fun k => br_f (by decide) (pg_page (fun i => br_f (by decide) ?_) (fun i => br_t rfl ?_))) (fun k => br_t rfl ?_)
  · obtain ⟨t, ht, e1⟩ := pg_known k
    obtain ⟨g, hg, e2⟩ := pg_in_n i
    have ez := hz.2.2 k i
    subst e1 e2 ez
    refine pk_loop (σ := Unit) (fun n i _ => wX_nextMapped_21 post (nI t) fc uc cl a1 a2 a3 a4 a5 a6 a7 a8 a9 n (nI i)) (fun _ _ => True) 32 g () (by omega) trivial (fun n _ _ => pk_le 32 32 (fun _ => H) (fun z => absurd z (by omega))) (fun n i _ hi _ hw => pk_le 32 i (fun z => absurd z (by omega)) (fun _ => ?_))
    rw [pg_32 t i]
    exact pg_has0 (by omega) h6 (br_t rfl (nm_r (nI_1 i) (hw () trivial)))
  · have ez := hz.2.1 k i
    subst ez
    exact H
  · have ez := hz.1 k
    subst ez
    exact H
theorem pg_216f {post : Int32 → St0 → Prop} {fc uc cl : Int32} {a1 a2 a3 a4 a5 a6 a7 a8 a9 : Nat → Int32} {mc ms kc ks : Nat} {x1 x2 x4 z : Int32} (h6 : ∀ b, b < 16 → a6 b = nI 0) (hz : pg_ans x1 x2 z) (H : post 1 ()) : wL_lawOf_216 post mc ms x1 x2 x4 z kc ks fc uc cl a1 a2 a3 a4 a5 a6 a7 a8 a9 := by
  have hne := pg_ans_ne hz
  unfold wL_lawOf_216
  exact pg_wf h6 hz (br_t rfl (pg_rf h6 (br_f hne (br_t rfl (pg_nf h6 hz (br_f hne (br_t rfl H)))))))
theorem pg_184f {post : Int32 → St0 → Prop} {fc uc cl : Int32} {a1 a2 a3 a4 a5 a6 a7 a8 a9 : Nat → Int32} {mc ms kc ks : Nat} {x1 x2 x4 x7 x9 z : Int32} (h6 : ∀ b, b < 16 → a6 b = nI 0) (h7 : x7 = 0 ↔ ¬ (x1 = 0 ∨ x1 = 1)) (hz : z = 0 ↔ ¬ pg_inside x2) (h9 : x9 ≤ 0) (H : post 1 ()) : wL_lawOf_184 post mc ms x1 x2 x4 x7 x9 z kc ks fc uc cl a1 a2 a3 a4 a5 a6 a7 a8 a9 := by
  unfold wL_lawOf_184
  refine br_c (fun c => pg_216f h6 ?_ H) (fun c => br_c (fun d => pg_216f h6 ?_ H) (fun d => br_t h9 (pg_216f h6 ?_ H)))
  · exact ⟨fun _ => rfl, fun k => absurd k (h7.mp c), fun k => absurd k (h7.mp c)⟩
  · exact ⟨fun k => absurd (h7.mpr k) c, fun _ _ => rfl, fun _ i => absurd i (hz.mp d)⟩
  · exact ⟨fun k => absurd (h7.mpr k) c, fun _ i => absurd (hz.mpr i) d, fun _ _ => rfl⟩
theorem pg_31 {x : Int32} : 31 < x ↔ 32 ≤ x := by
  rw [Int32.lt_iff_toInt_lt, Int32.le_iff_toInt_le]
  have a : (31 : Int32).toInt = 31 := by decide
  have b : (32 : Int32).toInt = 32 := by decide
  omega
theorem pg_164f {post : Int32 → St0 → Prop} {fc uc cl : Int32} {a1 a2 a3 a4 a5 a6 a7 a8 a9 : Nat → Int32} {mc ms kc ks : Nat} {x1 x2 x4 x7 x9 : Int32} (h6 : ∀ b, b < 16 → a6 b = nI 0) (h7 : x7 = 0 ↔ ¬ (x1 = 0 ∨ x1 = 1)) (h9 : x9 ≤ 0) (H : post 1 ()) : wL_lawOf_164 post mc ms x1 x2 x4 x7 x9 0 0 kc ks fc uc cl a1 a2 a3 a4 a5 a6 a7 a8 a9 := by
  unfold wL_lawOf_164
  refine br_t rfl (br_c (fun c => ?_) (fun c => br_c (fun d => ?_) (fun d => pg_184f h6 h7 ?_ h9 H)))
  · exact pg_184f h6 h7 ⟨fun _ i => i.1 c, fun _ => rfl⟩ h9 H
  · exact pg_184f h6 h7 ⟨fun _ i => i.2 (pg_31.mp d), fun _ => rfl⟩ h9 H
  · exact ⟨fun z => absurd z (by decide), fun i => absurd ⟨c, fun z => d (pg_31.mpr z)⟩ i⟩
/-- map answers z ≤ 0 and leaves the store: then nothing is mapped -/
theorem pg_131f {post : Int32 → St0 → Prop} {fc cl : Int32} {a1 a2 a3 a4 a5 a6 a7 a8 a9 : Nat → Int32} {mc ms kc ks : Nat} {x1 x2 x3 x4 x7 z : Int32} (h6 : ∀ b, b < 16 → a6 b = nI 0) (h7 : x7 = 0 ↔ ¬ (x1 = 0 ∨ x1 = 1)) (h9 : z ≤ 0) (H : post 1 ())
    (hm : ∀ Q : Int32 → St2 → Prop, Q z (fc, 0, cl, a1, a2, a3, a4, a5, a6, a7, a8, a9) → wpX_map Q (fc, 0, cl, a1, a2, a3, a4, a5, a6, a7, a8, a9) x1 x2 x3) : wL_lawOf_131 post mc ms x1 x2 x3 x4 x7 z kc ks fc 0 cl a1 a2 a3 a4 a5 a6 a7 a8 a9 := by
  unfold wL_lawOf_131
  refine hm _ (br_t rfl ?_)
  unfold wpX_used
  exact br_t h9 (pg_164f h6 h7 h9 H)
/-- page s lies in frame x -/
def pg_tr (s x : Nat) (a3 a5 a7 : Nat → Int32) : Prop := (a7 (s / 4) = 0 ∧ a3 s = nI x) ∨ (¬ a7 (s / 4) = 0 ∧ a5 (s / 4) = nI 0 ∧ s % 4 = 0 ∧ x = 0)
theorem pg_tr_of {F K s c : Nat} {a2 a3 a4 a5 a6 a7 a8 : Nat → Int32} (hF : F = 8 * K) (hc1 : 1 ≤ c) (hc : c ≤ F) (hs : s < 64) (hB : pg_FB F s c a2 a5) (hR : pg_R s c a3 a4 a6 a7 a8) : ∃ x, x < 48 ∧ pg_tr s x a3 a5 a7 := by
  obtain ⟨h6, h7, h8, h4, h3⟩ := hR
  by_cases d : s % 4 = 0 ∧ 4 ≤ c
  · refine ⟨0, by omega, Or.inr ⟨?_, ?_, d.1, rfl⟩⟩
    · rw [h7 _ (by omega), if_pos (by omega)]
      decide
    · rcases hB with ⟨_, _, h5⟩ | ⟨hq, _⟩
      · rw [h5 _ (by omega), if_pos (by unfold pg_T; rw [if_neg (by omega)]; omega), Nat.sub_self]
      · omega
  · obtain ⟨x, hx, e⟩ := h3 (by omega) d
    refine ⟨x, hx, Or.inl ⟨?_, e⟩⟩
    rw [h7 _ (by omega), if_neg (by omega)]
theorem pg_trl {post : Int32 → Prop} {fc uc cl : Int32} {a1 a2 a3 a4 a5 a6 a7 a8 a9 : Nat → Int32} {s x : Nat} (hs : s < 64) (ht : pg_tr s x a3 a5 a7) (H : post (nI x)) : wpX_translate post (fc, uc, cl, a1, a2, a3, a4, a5, a6, a7, a8, a9) (nI s) := by
  have hb : s / 4 < 16 := by omega
  unfold wpX_translate
  refine nm_r (pg_sh2 (by omega)) ⟨pk_in _ 16 hb, ?_⟩
  rw [nI_clamp (show s / 4 < 2 ^ 31 by omega)]
  rcases ht with ⟨h7, h3⟩ | ⟨h7, h5, hm, hx⟩
  · refine br_t h7 ⟨pk_in s 64 hs, ?_⟩
    rw [nI_clamp (show s < 2 ^ 31 by omega), h3]
    exact H
  · refine br_f h7 ⟨pk_in _ 16 hb, ?_⟩
    rw [h5, pg_an3 (by omega), hm, nI_add]
    subst hx
    exact H
theorem pg_mw {post : Int32 → Prop} {fc uc cl : Int32} {a1 a2 a3 a4 a5 a6 a7 a8 a9 : Nat → Int32} {s c : Nat} (hs : s < 64) (hc : 1 ≤ c) (hR : pg_R s c a3 a4 a6 a7 a8) (H : post 1) : wpX_mayWrite post (fc, uc, cl, a1, a2, a3, a4, a5, a6, a7, a8, a9) (nI s) := by
  obtain ⟨h6, h7, h8, h4, h3⟩ := hR
  have hb : s / 4 < 16 := by omega
  unfold wpX_mayWrite
  rw [pg_sh2 (show s < 2 ^ 31 by omega), nI_clamp (show s / 4 < 2 ^ 31 by omega), nI_clamp (show s < 2 ^ 31 by omega)]
  dsimp only
  rw [h4 s (by omega) (by omega)]
  refine ⟨pk_in _ 16 hb, br_c (fun _ => ⟨pk_in s 64 hs, by rfl, H⟩) (fun d => ⟨pk_in _ 16 hb, ?_⟩)⟩
  rw [h7 _ hb] at d
  by_cases e : s ≤ 4 * (s / 4) ∧ 4 * (s / 4) + 4 ≤ s + c
  · rw [h8 _ hb e.1 e.2]
    exact ⟨by rfl, H⟩
  · rw [if_neg e] at d
    exact absurd rfl d
theorem pg_hasS {post : Int32 → Prop} {fc uc cl : Int32} {a1 a2 a3 a4 a5 a6 a7 a8 a9 : Nat → Int32} {s c : Nat} (hs : s < 64) (hc : 1 ≤ c) (h6 : ∀ b, b < 16 → a6 b = nI (pg_hm s (s + c) b)) (H : post 1) : wpX_has post (fc, uc, cl, a1, a2, a3, a4, a5, a6, a7, a8, a9) (nI s) := by
  refine pg_has hs (pg_hm_lt _ _ _) (h6 _ (by omega)) (fun _ => H) (fun z => ?_)
  rw [pg_hm_bit1 (Nat.le_refl s) (by omega)] at z
  exact absurd z (by omega)
theorem pg_216s {post : Int32 → St0 → Prop} {fc uc cl : Int32} {a1 a2 a3 a4 a5 a6 a7 a8 a9 : Nat → Int32} {mc ms kc ks : Nat} {t g s c x : Nat} {v : Int32} (ht : t ≤ 1) (hg : g < 32) (es : 32 * t + g = s) (hc : 1 ≤ c) (hR : pg_R s c a3 a4 a6 a7 a8) (hx : x < 48) (htr : pg_tr s x a3 a5 a7) (H : post 1 ()) : wL_lawOf_216 post mc ms (nI t) (nI g) v 0 kc ks fc uc cl a1 a2 a3 a4 a5 a6 a7 a8 a9 := by
  have k : nI t = 0 ∨ nI t = 1 := by
    have : t = 0 ∨ t = 1 := by omega
    rcases this with rfl | rfl
    · exact Or.inl rfl
    · exact Or.inr rfl
  have i : pg_inside (nI g) := ⟨nI_pos (by omega), nI_ge (b := 32) hg (by omega)⟩
  have e : 32 * nI t + nI g = nI s := by rw [pg_32, es]
  have hs : s < 64 := by omega
  unfold wL_lawOf_216 wpX_write
  refine pg_space (fun _ => br_f (by decide) (pg_page (fun _ => br_f (by decide) ?_) (fun z => absurd i z))) (fun z => absurd k z)
  refine nm_r e (pg_hasS hs hc hR.1 (br_f (by decide) (pg_mw hs hc hR (br_f (by decide) ?_))))
  unfold wpX_setContent
  refine pg_trl hs htr ⟨pk_in x 48 hx, nm_r (e' := upd a1 x v) (by rw [nI_clamp (show x < 2 ^ 31 by omega)]) ?_⟩
  rw [pg_sh2 (show s < 2 ^ 31 by omega)]
  refine pg_use (by omega) (fun cl' a9' => ?_)
  refine br_t rfl ?_
  unfold wpX_read
  refine pg_space (fun _ => br_f (by decide) (pg_page (fun _ => br_f (by decide) ?_) (fun z => absurd i z))) (fun z => absurd k z)
  refine nm_r e (pg_hasS hs hc hR.1 (br_f (by decide) ?_))
  unfold wpX_content
  refine pg_trl hs htr ⟨pk_in x 48 hx, ?_⟩
  rw [nI_clamp (show x < 2 ^ 31 by omega), pk_us]
  refine br_t rfl (br_t rfl ?_)
  unfold wpX_nextMapped
  refine pg_space (fun _ => br_f (by decide) (pg_page (fun _ => br_f (by decide) ⟨1, pk_le 32 g (fun z => absurd z (by omega)) (fun _ => ?_)⟩) (fun z => absurd i z))) (fun z => absurd k z)
  rw [e]
  exact pg_hasS hs hc hR.1 (br_f (by decide) (br_t rfl (br_t rfl H)))
theorem pg_131s {post : Int32 → St0 → Prop} {cl : Int32} {a1 a2 a3 a4 a5 a6 a7 a8 a9 : Nat → Int32} {mc ms kc ks : Nat} {F K t g c : Nat} {v : Int32} (hF : F = 8 * K) (hK1 : 1 ≤ K) (hK : K ≤ 6) (ht : t ≤ 1) (hc1 : 1 ≤ c) (hc : c ≤ F) (hgc : g + c ≤ 32) (hgood : pg_good (nI g) (nI c))
    (hB : pg_FB F (32 * t + g) 0 a2 a5) (hR : pg_R (32 * t + g) 0 a3 a4 a6 a7 a8) (h6 : ∀ b, b < 16 → a6 b = nI 0) (H : post 1 ()) : wL_lawOf_131 post mc ms (nI t) (nI g) (nI c) v 1 (nI c) kc ks (nI F) (nI 0) cl a1 a2 a3 a4 a5 a6 a7 a8 a9 := by
  unfold wL_lawOf_131
  refine pg_map34 ht rfl hgood rfl rfl hgc h6 ⟨fun _ => ⟨c + 1, pg_83 hF hK1 hK hc (by omega) (fun cl' a1' a2' a3' a4' a5' a6' a7' a8' a9' hB' hR' => ?_) c 0 (by omega) _ _ _ _ _ _ _ _ _ _ hB hR⟩, fun z => absurd z (by omega)⟩ (by omega)
  obtain ⟨x, hx, htr⟩ := pg_tr_of hF hc1 hc (by omega) hB' hR'
  refine br_t rfl ?_
  unfold wpX_used
  refine br_f (nI_nle (by omega) (by omega)) ?_
  unfold wL_lawOf_164
  refine br_t rfl (br_f (nI_pos (by omega)) (br_f (nI_nlt (b := g) (a := 31) (by omega) (by omega)) ?_))
  unfold wL_lawOf_184
  exact br_f (by decide) (br_f (by decide) (br_f (nI_nle (by omega) (by omega)) (pg_216s ht (by omega) rfl hc1 hR' hx htr H)))
end
section
theorem pg_98 {post : Int32 → St0 → Prop} {cl : Int32} {a1 a2 a3 a4 a5 a6 a7 a8 a9 : Nat → Int32} {mc ms kc ks : Nat} {F K : Nat} {x1 x2 x3 x4 x7 z : Int32} (hF : F = 8 * K) (hK1 : 1 ≤ K) (hK : K ≤ 6)
    (hB : ∀ s, s < 64 → pg_FB F s 0 a2 a5) (hR : ∀ s, s < 64 → pg_R s 0 a3 a4 a6 a7 a8) (h6 : ∀ b, b < 16 → a6 b = nI 0) (h7 : x7 = 0 ∨ x7 = 1) (hk : x7 = 0 ↔ ¬ (x1 = 0 ∨ x1 = 1)) (hz : z = 0 ↔ ¬ pg_good x2 x3) (H : post 1 ()) :
    wL_lawOf_98 post mc ms x1 x2 x3 x4 (nI F) x7 z kc ks (nI F) (nI 0) cl a1 a2 a3 a4 a5 a6 a7 a8 a9 := by
  have kn : ¬ x7 = 0 → (x1 = 0 ∨ x1 = 1) := fun c => Classical.byContradiction (fun n => c (hk.mpr n))
  have gd : ¬ z = 0 → pg_good x2 x3 := fun c => Classical.byContradiction (fun n => c (hz.mpr n))
  unfold wL_lawOf_98
  refine br_c (fun c => ?_) (fun c => br_c (fun d => ?_) (fun d => ?_))
  · exact pg_131f h6 hk (by decide) H (fun Q hQ => pg_map1 (hk.mp c) hQ)
  · exact pg_131f h6 hk (by decide) H (fun Q hQ => pg_map2 (kn c) (hz.mp d) hQ)
  · have hg := gd d
    obtain ⟨t, ht, e1⟩ := pg_known (kn c)
    obtain ⟨g, k, hk1, hgk, e2, e3⟩ := pg_good_n hg
    have e7 : x7 = 1 := h7.resolve_left c
    subst e1 e2 e3 e7
    refine pk_le k F (fun e => ?_) (fun e => ?_)
    · exact pg_131s hF hK1 hK ht hk1 e hgk hg (hB _ (by omega)) (hR _ (by omega)) h6 H
    · exact pg_131f h6 hk (by decide) H (fun Q hQ => pg_map34 ht rfl hg rfl rfl hgk h6 ⟨fun z => absurd z (by omega), fun _ => hQ⟩ (by omega))
theorem pg_68 {post : Int32 → St0 → Prop} {cl : Int32} {a1 a2 a3 a4 a5 a6 a7 a8 a9 : Nat → Int32} {mc ms kc ks : Nat} {F K : Nat} {x1 x2 x3 x4 x7 : Int32} (hF : F = 8 * K) (hK1 : 1 ≤ K) (hK : K ≤ 6)
    (hB : ∀ s, s < 64 → pg_FB F s 0 a2 a5) (hR : ∀ s, s < 64 → pg_R s 0 a3 a4 a6 a7 a8) (h6 : ∀ b, b < 16 → a6 b = nI 0) (h7 : x7 = 0 ∨ x7 = 1) (hk : x7 = 0 ↔ ¬ (x1 = 0 ∨ x1 = 1)) (H : post 1 ()) :
    wL_lawOf_68 post mc ms x1 x2 x3 x4 (nI F) x7 kc ks (nI F) (nI 0) cl a1 a2 a3 a4 a5 a6 a7 a8 a9 := by
  have bad : ¬ pg_good x2 x3 → wL_lawOf_97 post mc ms x1 x2 x3 x4 (nI F) x7 kc ks (nI F) (nI 0) cl a1 a2 a3 a4 a5 a6 a7 a8 a9 := fun n => pg_98 hF hK1 hK hB hR h6 h7 hk ⟨fun _ => n, fun _ => rfl⟩ H
  unfold wL_lawOf_68
  exact br_c (fun z => bad (fun t => t.1 z)) (fun z1 => br_c (fun z => bad (fun t => t.2.1 z)) (fun z2 => br_c (fun z => bad (fun t => t.2.2.1 z)) (fun z3 => br_c (fun z => bad (fun t => t.2.2.2 z)) (fun z4 => pg_98 hF hK1 hK hB hR h6 h7 hk ⟨fun z => absurd z (by decide), fun n => absurd ⟨z1, z2, z3, z4⟩ n⟩ H))))
theorem pg_56 : ∀ n, n < 49 → nI n &&& 56 = nI (8 * (n / 8)) := by decide +kernel
theorem pg_r8 : ∀ n, n < 49 → nI n - (nI n - nI n / 8 * 8) = nI (8 * (n / 8)) := by decide +kernel
theorem pg_l35 {post : Int32 → St0 → Prop} {cl : Int32} {a1 a2 a3 a4 a5 a6 a7 a8 a9 : Nat → Int32} {mc ms kc ks : Nat} {n : Nat} {x1 x2 x3 x4 : Int32} (h8 : 8 ≤ n) (h48 : n ≤ 48)
    (hB : ∀ s, s < 64 → pg_FB (8 * (n / 8)) s 0 a2 a5) (hR : ∀ s, s < 64 → pg_R s 0 a3 a4 a6 a7 a8) (h6 : ∀ b, b < 16 → a6 b = nI 0) (H : post 1 ()) :
    wL_lawOf_35 post mc ms x1 x2 x3 x4 (nI n) kc ks (nI (8 * (n / 8))) (nI 0) cl a1 a2 a3 a4 a5 a6 a7 a8 a9 := by
  unfold wL_lawOf_35
  refine nm_r (pg_56 n (by omega)) ?_
  unfold wpX_frames
  refine br_t rfl (br_c (fun z => ?_) (fun z0 => br_c (fun z => ?_) (fun z1 => ?_)))
  · exact pg_68 (K := n / 8) rfl (by omega) (by omega) hB hR h6 (Or.inr rfl) ⟨fun e => absurd e (by decide), fun e => absurd (Or.inl z) e⟩ H
  · exact pg_68 (K := n / 8) rfl (by omega) (by omega) hB hR h6 (Or.inr rfl) ⟨fun e => absurd e (by decide), fun e => absurd (Or.inr z) e⟩ H
  · exact pg_68 (K := n / 8) rfl (by omega) (by omega) hB hR h6 (Or.inl rfl) ⟨fun _ e => e.elim z0 z1, fun _ => rfl⟩ H
theorem pg_159 {post : St2 → Prop} {fc uc cl : Int32} {a1 a2 a3 a4 a5 a6 a7 a8 a9 : Nat → Int32} {mc ms kc ks : Nat} (H : ∀ a5', (∀ b, b < 16 → a5' b = -1) → post (fc, uc, cl, a1, a2, a3, a4, a5', a6, a7, a8, a9)) : ∃ fu, wX_init_159 post mc ms kc ks fc uc cl fu 0 a1 a2 a3 a4 a5 a6 a7 a8 a9 :=
  pk_loop (fun n i s => wX_init_159 post mc ms kc ks fc uc cl n (nI i) a1 a2 a3 a4 s a6 a7 a8 a9) (fun i s => ∀ b, b < i → s b = -1) 16 0 a5 (by omega) (fun b hb => absurd hb (by omega))
    (fun n s h => pk_le 16 16 (fun _ => H s h) (fun z => absurd z (by omega)))
    (fun n i s hi h hw => pk_le 16 i (fun z => absurd z (by omega)) (fun _ => ⟨pk_in i 16 hi, nm_r (e' := upd s i (-1)) (by rw [nI_clamp (show i < 2 ^ 31 by omega)]) (nm_r (nI_1 i) (hw _ (fun b hb => by
      by_cases c : b = i
      · rw [c, pk_us]
      · rw [pk_un c]
        exact h b (by omega))))⟩))
theorem pg_138 {post : St2 → Prop} {fc uc cl : Int32} {a1 a2 a3 a4 a5 a6 a7 a8 a9 : Nat → Int32} {mc ms kc ks : Nat} (H : ∀ a3' a5', (∀ b, b < 16 → a5' b = -1) → post (fc, uc, cl, a1, a2, a3', a4, a5', a6, a7, a8, a9)) : ∃ fu, wX_init_138 post mc ms kc ks fc uc cl fu 0 a1 a2 a3 a4 a5 a6 a7 a8 a9 :=
  pk_loop (fun n i s => wX_init_138 post mc ms kc ks fc uc cl n (nI i) a1 a2 s a4 a5 a6 a7 a8 a9) (fun _ _ => True) 64 0 a3 (by omega) trivial
    (fun n s h => pk_le 64 64 (fun _ => pg_159 (H s)) (fun z => absurd z (by omega)))
    (fun n i s hi h hw => pk_le 64 i (fun z => absurd z (by omega)) (fun _ => ⟨pk_in i 64 hi, nm_e (nm_r (nI_1 i) (hw _ trivial))⟩))
theorem pg_f1_0 {F i : Nat} : pg_f1 F 0 i = if 144 ≤ i ∧ (i - 144) % 8 = 0 ∧ i - 144 < F then 1 else 0 := by
  unfold pg_f1
  by_cases c : 144 ≤ i ∧ (i - 144) % 8 = 0 ∧ i - 144 < F
  · rw [if_pos c, if_pos (by omega)]
  · rw [if_neg c, if_neg (by omega)]
theorem pg_111 {post : St2 → Prop} {uc cl : Int32} {a1 a3 a4 a5 a6 a7 a8 a9 : Nat → Int32} {mc ms kc ks K : Nat} (hK : K ≤ 6) (H : ∀ a2' a3' a5', (∀ i, i < 192 → a2' i = pg_f1 (8 * K) 0 i) → (∀ b, b < 16 → a5' b = -1) → post (nI (8 * K), uc, cl, a1, a2', a3', a4, a5', a6, a7, a8, a9)) : ∃ fu, wX_init_111 post mc ms kc ks (nI (8 * K)) uc cl fu 0 a1 (fun _ => 0) a3 a4 a5 a6 a7 a8 a9 :=
  pk_loop (fun n i s => wX_init_111 post mc ms kc ks (nI (8 * K)) uc cl n (nI (8 * i)) a1 s a3 a4 a5 a6 a7 a8 a9) (fun i s => ∀ x, x < 192 → s x = pg_f1 (8 * i) 0 x) K 0 (fun _ => 0) (by omega) (fun x hx => (if_neg (by omega)).symm)
    (fun n s h => pk_le (8 * K) (8 * K) (fun _ => pg_138 (fun a3' a5' h5 => H s a3' a5' h h5)) (fun z => absurd z (by omega)))
    (fun n i s hi h hw => by
      have ex : 144 + nI (8 * i) = nI (144 + 8 * i) := by rw [show (144 : Int32) = nI 144 from rfl, nI_add]
      refine pk_le (8 * K) (8 * i) (fun z => absurd z (by omega)) (fun _ => ⟨pk_in (144 + 8 * i) 192 (by omega) ex, nm_r (e' := upd s (144 + 8 * i) 1) (by rw [pk_cl _ ex (by omega)]) (nm_r (e' := nI (8 * (i + 1))) ?_ (hw _ (fun x hx => ?_)))⟩)
      · rw [show (8 : Int32) = nI 8 from rfl, nI_add]
        exact congrArg nI (by omega)
      · by_cases c : x = 144 + 8 * i
        · rw [c, pk_us]
          exact (if_pos (by omega)).symm
        · rw [pk_un c, h x hx, pg_f1_0, pg_f1_0]
          by_cases d : 144 ≤ x ∧ (x - 144) % 8 = 0 ∧ x - 144 < 8 * i
          · rw [if_pos d, if_pos (by omega)]
          · rw [if_neg d, if_neg (by omega)])
theorem pg_FB0 {F K s : Nat} {a2 a5 : Nat → Int32} (hF : F = 8 * K) (hK1 : 1 ≤ K) (h2 : ∀ i, i < 192 → a2 i = pg_f1 F 0 i) (h5 : ∀ b, b < 16 → a5 b = -1) : pg_FB F s 0 a2 a5 :=
  Or.inl ⟨by omega, h2, fun b hb => (h5 b hb).trans (if_neg (by show ¬ (s / 4 ≤ b ∧ b < s / 4 + 0); omega)).symm⟩
theorem pg_R0 {s : Nat} {a3 : Nat → Int32} : pg_R s 0 a3 (fun _ => 0) (fun _ => 0) (fun _ => 0) (fun _ => 0) :=
  ⟨fun b hb => by rw [pg_hm_0 (by omega)]; rfl, fun b hb => by rw [if_neg (by omega)], fun b hb h1 h2 => absurd h2 (by omega), fun p h1 h2 => absurd h2 (by omega), fun h => absurd h (by omega)⟩
/-- the constructor, behind its count -/
theorem pg_99 {post : St2 → Prop} {mc ms kc ks n : Nat} {fc : Int32} (h8 : 8 ≤ n) (h48 : n ≤ 48)
    (H : ∀ a2 a3 a5, (∀ s, s < 64 → pg_FB (8 * (n / 8)) s 0 a2 a5) → post (nI (8 * (n / 8)), nI 0, 0, fun _ => 0, a2, a3, fun _ => 0, a5, fun _ => 0, fun _ => 0, fun _ => 0, fun _ => 0)) :
    wX_init_99 post mc ms (nI n) kc ks fc 0 0 (fun _ => 0) (fun _ => 0) (fun _ => 0) (fun _ => 0) (fun _ => 0) (fun _ => 0) (fun _ => 0) (fun _ => 0) (fun _ => 0) := by
  unfold wX_init_99
  exact ⟨by decide, nm_r (pg_r8 n (by omega)) (pg_111 (by omega) (fun a2' a3' a5' h2 h5 => H a2' a3' a5' (fun s _ => pg_FB0 rfl (by omega) h2 h5)))⟩
theorem pg_lawOf {post : Int32 → St0 → Prop} {p0 p1 p2 p3 p4 : Int32} (H : post 1 ()) : wpL_lawOf post 142 2272 () p0 p1 p2 p3 p4 := by
  unfold wpL_lawOf
  refine ⟨by omega, by omega, 141, 2260, by omega, by omega, ?_⟩
  unfold wpX_init
  refine ⟨by omega, by omega, by omega, by omega, by omega, by omega, by omega, by omega, by omega, by omega, by omega, by omega, by omega, by omega, by omega, by omega, by omega, by omega, ?_⟩
  by_cases c : 8 ≤ p0
  · refine br_t c ?_
    unfold wX_init_89
    by_cases d : p0 ≤ 48
    · have hn : ∃ n : Nat, 8 ≤ n ∧ n ≤ 48 ∧ p0 = nI n := by
        rw [Int32.le_iff_toInt_le] at c d
        have a8 : (8 : Int32).toInt = 8 := by decide
        have a48 : (48 : Int32).toInt = 48 := by decide
        refine ⟨p0.toInt.toNat, by omega, by omega, ?_⟩
        apply Int32.toInt_inj.mp
        rw [nI_toInt (by omega)]
        omega
      obtain ⟨n, h8, h48, e⟩ := hn
      subst e
      refine br_t d (pg_99 h8 h48 (fun a2 a3 a5 hB => br_t c (br_t d ?_)))
      exact pg_l35 h8 h48 hB (fun s _ => pg_R0) (fun b _ => rfl) H
    · refine br_f d (pg_99 (n := 48) (by omega) (by omega) (fun a2 a3 a5 hB => br_t c (br_f d ?_)))
      exact pg_l35 (n := 48) (by omega) (by omega) hB (fun s _ => pg_R0) (fun b _ => rfl) H
  · refine br_f c ?_
    unfold wX_init_89
    refine br_t (by decide) (pg_99 (n := 8) (by omega) (by omega) (fun a2 a3 a5 hB => br_f c (br_t (by decide) ?_)))
    exact pg_l35 (n := 8) (by omega) (by omega) hB (fun s _ => pg_R0) (fun b _ => rfl) H
theorem pg_cell {post : Int32 → Prop} {L : Nat} {xs : Nat → Int32} {k : Nat} {x : Int32} (hL : L ≤ 5) (hk : k < 5) (hx : x = nI k) (H : ∀ r, post r) : wpL_cellAt post L xs () x := by
  subst hx
  exact pk_le L k (fun _ => H _) (fun h => ⟨pk_in k L h, H _⟩)
theorem i_vc (xs : Nat → Int32) (L : Nat) (hL : L ≤ 5) : wpL_law (fun r => r = 1) L xs := by
  unfold wpL_law
  exact pg_cell (k := 0) hL (by omega) rfl (fun r1 => pg_cell (k := 1) hL (by omega) rfl (fun r2 => pg_cell (k := 2) hL (by omega) rfl (fun r3 => pg_cell (k := 3) hL (by omega) rfl (fun r4 => pg_cell (k := 4) hL (by omega) rfl (fun r5 => ⟨142, 2272, by omega, by omega, pg_lawOf rfl⟩)))))
end
