section
/-! matrices over Int: rows 0..2, columns 0..2, the right side in column 3 -/
def sm_sg (a b i : Nat) : Nat := if i = a then b else if i = b then a else i
theorem sm_sg_sg {a b : Nat} (i : Nat) : sm_sg a b (sm_sg a b i) = i := by
  unfold sm_sg
  by_cases h1 : i = a
  · by_cases h2 : b = a
    · simp [h1, h2]
    · simp [h1, h2]
  · by_cases h2 : i = b
    · simp [h1, h2]
    · simp [h1, h2]
theorem sm_sg_lt {a b i n : Nat} (ha : a < n) (hb : b < n) (hi : i < n) : sm_sg a b i < n := by
  unfold sm_sg; split
  · exact hb
  · split
    · exact ha
    · exact hi
theorem sm_sg_3 {a b : Nat} (ha : a < 3) (hb : b < 3) : sm_sg a b 3 = 3 := by
  unfold sm_sg; rw [if_neg (by omega), if_neg (by omega)]
def sm_zR (a b : Nat) (F : Nat → Nat → Int) : Nat → Nat → Int := fun r c => F (sm_sg a b r) c
def sm_zC (a b : Nat) (F : Nat → Nat → Int) : Nat → Nat → Int := fun r c => F r (sm_sg a b c)
def sm_aR (a b : Nat) (t : Int) (F : Nat → Nat → Int) : Nat → Nat → Int := fun r c => if r = a then F r c + t * F b c else F r c
def sm_aC (a b : Nat) (t : Int) (F : Nat → Nat → Int) : Nat → Nat → Int := fun r c => if c = a then F r c + t * F r b else F r c
def sm_I : Nat → Nat → Int := fun r c => if r = c then 1 else 0
theorem sm_zR_zR (a b : Nat) (F : Nat → Nat → Int) : sm_zR a b (sm_zR a b F) = F := by
  funext r c; unfold sm_zR; rw [sm_sg_sg]
theorem sm_zC_zC (a b : Nat) (F : Nat → Nat → Int) : sm_zC a b (sm_zC a b F) = F := by
  funext r c; unfold sm_zC; rw [sm_sg_sg]
theorem sm_aR_aR {a b : Nat} (h : a ≠ b) (t : Int) (F : Nat → Nat → Int) : sm_aR a b (-t) (sm_aR a b t F) = F := by
  funext r c; unfold sm_aR
  by_cases h1 : r = a
  · have h2 : ¬ b = a := fun z => h z.symm
    simp only [h1, h2, if_true, if_false]; grind
  · simp only [h1, if_false]
theorem sm_aC_aC {a b : Nat} (h : a ≠ b) (t : Int) (F : Nat → Nat → Int) : sm_aC a b (-t) (sm_aC a b t F) = F := by
  funext r c; unfold sm_aC
  by_cases h1 : c = a
  · have h2 : ¬ b = a := fun z => h z.symm
    simp only [h1, h2, if_true, if_false]; grind
  · simp only [h1, if_false]
def sm_Cl (S : (Nat → Nat → Int) → (Nat → Nat → Int) → Int → Prop) : Prop :=
  ∀ F V s, S F V s → ∀ a b, a < 3 → b < 3 → a ≠ b →
    S (sm_zR a b F) V (-s) ∧ S (sm_zC a b F) (sm_zC a b V) (-s) ∧ (∀ t, S (sm_aR a b t F) V s) ∧ (∀ t, S (sm_aC a b t F) (sm_aC a b t V) s)
def sm_Rch (A F V : Nat → Nat → Int) (s : Int) : Prop :=
  ∀ S : (Nat → Nat → Int) → (Nat → Nat → Int) → Int → Prop, sm_Cl S → S A sm_I 1 → S F V s
theorem sm_Rch_0 (A : Nat → Nat → Int) : sm_Rch A A sm_I 1 := fun _ _ h => h
theorem sm_Rch_zR {A F V : Nat → Nat → Int} {s : Int} (h : sm_Rch A F V s) {a b : Nat} (ha : a < 3) (hb : b < 3) (hab : a ≠ b) : sm_Rch A (sm_zR a b F) V (-s) :=
  fun S c z => (c F V s (h S c z) a b ha hb hab).1
theorem sm_Rch_zC {A F V : Nat → Nat → Int} {s : Int} (h : sm_Rch A F V s) {a b : Nat} (ha : a < 3) (hb : b < 3) (hab : a ≠ b) : sm_Rch A (sm_zC a b F) (sm_zC a b V) (-s) :=
  fun S c z => (c F V s (h S c z) a b ha hb hab).2.1
theorem sm_Rch_aR {A F V : Nat → Nat → Int} {s : Int} (h : sm_Rch A F V s) {a b : Nat} (ha : a < 3) (hb : b < 3) (hab : a ≠ b) (t : Int) : sm_Rch A (sm_aR a b t F) V s :=
  fun S c z => (c F V s (h S c z) a b ha hb hab).2.2.1 t
theorem sm_Rch_aC {A F V : Nat → Nat → Int} {s : Int} (h : sm_Rch A F V s) {a b : Nat} (ha : a < 3) (hb : b < 3) (hab : a ≠ b) (t : Int) : sm_Rch A (sm_aC a b t F) (sm_aC a b t V) s :=
  fun S c z => (c F V s (h S c z) a b ha hb hab).2.2.2 t
/-- a property that every step carries over is the same at the start and at the end -/
theorem sm_tr {Q : (Nat → Nat → Int) → Prop}
    (h1 : ∀ F a b, a < 3 → b < 3 → a ≠ b → Q F → Q (sm_zR a b F))
    (h2 : ∀ F a b, a < 3 → b < 3 → a ≠ b → Q F → Q (sm_zC a b F))
    (h3 : ∀ F a b t, a < 3 → b < 3 → a ≠ b → Q F → Q (sm_aR a b t F))
    (h4 : ∀ F a b t, a < 3 → b < 3 → a ≠ b → Q F → Q (sm_aC a b t F))
    {A F V : Nat → Nat → Int} {s : Int} (h : sm_Rch A F V s) : Q A ↔ Q F := by
  refine h (fun F _ _ => (Q A ↔ Q F)) ?_ Iff.rfl
  intro F V s hF a b ha hb hab
  refine ⟨hF.trans ⟨h1 F a b ha hb hab, fun z => ?_⟩, hF.trans ⟨h2 F a b ha hb hab, fun z => ?_⟩, fun t => hF.trans ⟨h3 F a b t ha hb hab, fun z => ?_⟩, fun t => hF.trans ⟨h4 F a b t ha hb hab, fun z => ?_⟩⟩
  · have := h1 _ a b ha hb hab z; rwa [sm_zR_zR] at this
  · have := h2 _ a b ha hb hab z; rwa [sm_zC_zC] at this
  · have := h3 _ a b (-t) ha hb hab z; rwa [sm_aR_aR hab] at this
  · have := h4 _ a b (-t) ha hb hab z; rwa [sm_aC_aC hab] at this
/-! minors -/
def sm_m2 (F : Nat → Nat → Int) (i j k l : Nat) : Int := F i k * F j l - F i l * F j k
def sm_m3 (F : Nat → Nat → Int) (c d e : Nat) : Int :=
  F 0 c * (F 1 d * F 2 e - F 1 e * F 2 d) - F 0 d * (F 1 c * F 2 e - F 1 e * F 2 c) + F 0 e * (F 1 c * F 2 d - F 1 d * F 2 c)
/-- g divides all entries, all minors of size two, of size three, of the first n columns -/
def sm_D1 (n : Nat) (g : Int) (F : Nat → Nat → Int) : Prop := ∀ i k, i < 3 → k < n → g ∣ F i k
def sm_D2 (n : Nat) (g : Int) (F : Nat → Nat → Int) : Prop := ∀ i j k l, i < 3 → j < 3 → k < n → l < n → g ∣ sm_m2 F i j k l
def sm_D3 (n : Nat) (g : Int) (F : Nat → Nat → Int) : Prop := ∀ c d e, c < n → d < n → e < n → g ∣ sm_m3 F c d e
theorem sm_cs {a b : Nat} (ha : a < 3) (hb : b < 3) (hab : a ≠ b) : (a = 0 ∧ b = 1) ∨ (a = 0 ∧ b = 2) ∨ (a = 1 ∧ b = 0) ∨ (a = 1 ∧ b = 2) ∨ (a = 2 ∧ b = 0) ∨ (a = 2 ∧ b = 1) := by omega
theorem sm_D1_tr {n : Nat} (hn : 3 ≤ n) {g : Int} {A F V : Nat → Nat → Int} {s : Int} (h : sm_Rch A F V s) : sm_D1 n g A ↔ sm_D1 n g F := by
  refine sm_tr ?_ ?_ ?_ ?_ h
  · intro F a b ha hb hab q i k hi hk; exact q _ _ (sm_sg_lt ha hb hi) hk
  · intro F a b ha hb hab q i k hi hk; exact q _ _ hi (sm_sg_lt (by omega) (by omega) hk)
  · intro F a b t ha hb hab q i k hi hk
    unfold sm_aR; split
    · exact Int.dvd_add (q _ _ hi hk) (Int.dvd_trans (q b k hb hk) (Int.dvd_mul_left _ _))
    · exact q _ _ hi hk
  · intro F a b t ha hb hab q i k hi hk
    unfold sm_aC; split
    · exact Int.dvd_add (q _ _ hi hk) (Int.dvd_trans (q i b hi (by omega)) (Int.dvd_mul_left _ _))
    · exact q _ _ hi hk
theorem sm_dl {g x : Int} (t : Int) (h : g ∣ x) : g ∣ t * x := Int.dvd_trans h (Int.dvd_mul_left _ _)
theorem sm_m2_aR (F : Nat → Nat → Int) (a b : Nat) (t : Int) (i j k l : Nat) : sm_m2 (sm_aR a b t F) i j k l =
    sm_m2 F i j k l + (if i = a then t * sm_m2 F b j k l else 0) + (if j = a then t * sm_m2 F i b k l else 0) := by
  unfold sm_m2 sm_aR
  by_cases h1 : i = a
  · by_cases h2 : j = a
    · simp only [h1, h2, if_true]; grind
    · simp only [h1, h2, if_true, if_false]; grind
  · by_cases h2 : j = a
    · simp only [h1, h2, if_true, if_false]; grind
    · simp only [h1, h2, if_false]; grind
theorem sm_m2_aC (F : Nat → Nat → Int) (a b : Nat) (t : Int) (i j k l : Nat) : sm_m2 (sm_aC a b t F) i j k l =
    sm_m2 F i j k l + (if k = a then t * sm_m2 F i j b l else 0) + (if l = a then t * sm_m2 F i j k b else 0) := by
  unfold sm_m2 sm_aC
  by_cases h1 : k = a
  · by_cases h2 : l = a
    · simp only [h1, h2, if_true]; grind
    · simp only [h1, h2, if_true, if_false]; grind
  · by_cases h2 : l = a
    · simp only [h1, h2, if_true, if_false]; grind
    · simp only [h1, h2, if_false]; grind
theorem sm_dif {g x : Int} {p : Prop} [Decidable p] (h : p → g ∣ x) : g ∣ (if p then x else 0) := by
  split
  · exact h ‹_›
  · exact Int.dvd_zero _
theorem sm_D2_tr {n : Nat} (hn : 3 ≤ n) {g : Int} {A F V : Nat → Nat → Int} {s : Int} (h : sm_Rch A F V s) : sm_D2 n g A ↔ sm_D2 n g F := by
  refine sm_tr ?_ ?_ ?_ ?_ h
  · intro F a b ha hb hab q i j k l hi hj hk hl; exact q _ _ _ _ (sm_sg_lt ha hb hi) (sm_sg_lt ha hb hj) hk hl
  · intro F a b ha hb hab q i j k l hi hj hk hl; exact q _ _ _ _ hi hj (sm_sg_lt (by omega) (by omega) hk) (sm_sg_lt (by omega) (by omega) hl)
  · intro F a b t ha hb hab q i j k l hi hj hk hl
    rw [sm_m2_aR]
    exact Int.dvd_add (Int.dvd_add (q _ _ _ _ hi hj hk hl) (sm_dif fun _ => sm_dl t (q _ _ _ _ hb hj hk hl))) (sm_dif fun _ => sm_dl t (q _ _ _ _ hi hb hk hl))
  · intro F a b t ha hb hab q i j k l hi hj hk hl
    rw [sm_m2_aC]
    exact Int.dvd_add (Int.dvd_add (q _ _ _ _ hi hj hk hl) (sm_dif fun _ => sm_dl t (q _ _ _ _ hi hj (by omega) hl))) (sm_dif fun _ => sm_dl t (q _ _ _ _ hi hj hk (by omega)))
theorem sm_m3_zR {F : Nat → Nat → Int} {a b : Nat} (ha : a < 3) (hb : b < 3) (hab : a ≠ b) (c d e : Nat) : sm_m3 (sm_zR a b F) c d e = - sm_m3 F c d e := by
  rcases sm_cs ha hb hab with ⟨rfl, rfl⟩ | ⟨rfl, rfl⟩ | ⟨rfl, rfl⟩ | ⟨rfl, rfl⟩ | ⟨rfl, rfl⟩ | ⟨rfl, rfl⟩ <;>
    simp [sm_m3, sm_zR, sm_sg] <;> grind
theorem sm_m3_aR {F : Nat → Nat → Int} {a b : Nat} (ha : a < 3) (hb : b < 3) (hab : a ≠ b) (t : Int) (c d e : Nat) : sm_m3 (sm_aR a b t F) c d e = sm_m3 F c d e := by
  rcases sm_cs ha hb hab with ⟨rfl, rfl⟩ | ⟨rfl, rfl⟩ | ⟨rfl, rfl⟩ | ⟨rfl, rfl⟩ | ⟨rfl, rfl⟩ | ⟨rfl, rfl⟩ <;>
    simp [sm_m3, sm_aR] <;> grind
theorem sm_m3_aC (F : Nat → Nat → Int) (a b : Nat) (t : Int) (c d e : Nat) : sm_m3 (sm_aC a b t F) c d e =
    sm_m3 F c d e + (if c = a then t * sm_m3 F b d e else 0) + (if d = a then t * sm_m3 F c b e else 0) + (if e = a then t * sm_m3 F c d b else 0) := by
  unfold sm_m3 sm_aC
  by_cases h1 : c = a <;> by_cases h2 : d = a <;> by_cases h3 : e = a <;> simp only [h1, h2, h3, if_true, if_false] <;> grind
theorem sm_D3_tr {n : Nat} (hn : 3 ≤ n) {g : Int} {A F V : Nat → Nat → Int} {s : Int} (h : sm_Rch A F V s) : sm_D3 n g A ↔ sm_D3 n g F := by
  refine sm_tr ?_ ?_ ?_ ?_ h
  · intro F a b ha hb hab q c d e hc hd he; rw [sm_m3_zR ha hb hab]; exact Int.dvd_neg.mpr (q _ _ _ hc hd he)
  · intro F a b ha hb hab q c d e hc hd he; exact q _ _ _ (sm_sg_lt (by omega) (by omega) hc) (sm_sg_lt (by omega) (by omega) hd) (sm_sg_lt (by omega) (by omega) he)
  · intro F a b t ha hb hab q c d e hc hd he; rw [sm_m3_aR ha hb hab]; exact q _ _ _ hc hd he
  · intro F a b t ha hb hab q c d e hc hd he
    rw [sm_m3_aC]
    exact Int.dvd_add (Int.dvd_add (Int.dvd_add (q _ _ _ hc hd he) (sm_dif fun _ => sm_dl t (q _ _ _ (by omega) hd he))) (sm_dif fun _ => sm_dl t (q _ _ _ hc (by omega) he))) (sm_dif fun _ => sm_dl t (q _ _ _ hc hd (by omega)))
/-- the determinant, up to the sign -/
theorem sm_det_tr {A F V : Nat → Nat → Int} {s : Int} (h : sm_Rch A F V s) : sm_m3 A 0 1 2 = s * sm_m3 F 0 1 2 ∧ (s = 1 ∨ s = -1) := by
  refine h (fun F _ s => sm_m3 A 0 1 2 = s * sm_m3 F 0 1 2 ∧ (s = 1 ∨ s = -1)) ?_ ⟨by omega, Or.inl rfl⟩
  intro F V s hF a b ha hb hab
  have hs : -s = 1 ∨ -s = -1 := by omega
  refine ⟨⟨?_, hs⟩, ⟨?_, hs⟩, fun t => ⟨?_, hF.2⟩, fun t => ⟨?_, hF.2⟩⟩
  · rw [sm_m3_zR ha hb hab, hF.1]; grind
  · have e : sm_m3 (sm_zC a b F) 0 1 2 = - sm_m3 F 0 1 2 := by
      rcases sm_cs ha hb hab with ⟨rfl, rfl⟩ | ⟨rfl, rfl⟩ | ⟨rfl, rfl⟩ | ⟨rfl, rfl⟩ | ⟨rfl, rfl⟩ | ⟨rfl, rfl⟩ <;>
        simp [sm_m3, sm_zC, sm_sg] <;> grind
    rw [e, hF.1]; grind
  · rw [sm_m3_aR ha hb hab, hF.1]
  · have e : sm_m3 (sm_aC a b t F) 0 1 2 = sm_m3 F 0 1 2 := by
      rcases sm_cs ha hb hab with ⟨rfl, rfl⟩ | ⟨rfl, rfl⟩ | ⟨rfl, rfl⟩ | ⟨rfl, rfl⟩ | ⟨rfl, rfl⟩ | ⟨rfl, rfl⟩ <;>
        simp [sm_m3, sm_aC] <;> grind
    rw [e, hF.1]
end
section
/-! the linear forms of a matrix; solutions modulo m; solutions carried back -/
def sm_lin (F : Nat → Nat → Int) (x : Nat → Int) (r : Nat) : Int := F r 0 * x 0 + F r 1 * x 1 + F r 2 * x 2
def sm_ad (u : Nat → Int) (i : Nat) (k : Int) : Nat → Int := fun j => if j = i then u j + k else u j
theorem sm_lin_zC {a b : Nat} (ha : a < 3) (hb : b < 3) (hab : a ≠ b) (F : Nat → Nat → Int) (x : Nat → Int) (r : Nat) :
    sm_lin (sm_zC a b F) x r = sm_lin F (fun i => x (sm_sg a b i)) r := by
  rcases sm_cs ha hb hab with ⟨rfl, rfl⟩ | ⟨rfl, rfl⟩ | ⟨rfl, rfl⟩ | ⟨rfl, rfl⟩ | ⟨rfl, rfl⟩ | ⟨rfl, rfl⟩ <;>
    simp [sm_lin, sm_zC, sm_sg] <;> grind
theorem sm_lin_aC {a b : Nat} (ha : a < 3) (hb : b < 3) (hab : a ≠ b) (t : Int) (F : Nat → Nat → Int) (x : Nat → Int) (r : Nat) :
    sm_lin (sm_aC a b t F) x r = sm_lin F (sm_ad x b (t * x a)) r := by
  rcases sm_cs ha hb hab with ⟨rfl, rfl⟩ | ⟨rfl, rfl⟩ | ⟨rfl, rfl⟩ | ⟨rfl, rfl⟩ | ⟨rfl, rfl⟩ | ⟨rfl, rfl⟩ <;>
    simp [sm_lin, sm_aC, sm_ad] <;> grind
theorem sm_lin_aR (a b : Nat) (t : Int) (F : Nat → Nat → Int) (x : Nat → Int) (r : Nat) :
    sm_lin (sm_aR a b t F) x r = sm_lin F x r + (if r = a then t * sm_lin F x b else 0) := by
  unfold sm_lin sm_aR
  by_cases h : r = a
  · simp only [h, if_true]; grind
  · simp only [h, if_false]; grind
theorem sm_zC_3 {a b : Nat} (ha : a < 3) (hb : b < 3) (F : Nat → Nat → Int) (r : Nat) : sm_zC a b F r 3 = F r 3 := by
  unfold sm_zC; rw [sm_sg_3 ha hb]
theorem sm_aC_3 {a b : Nat} (ha : a < 3) (t : Int) (F : Nat → Nat → Int) (r : Nat) : sm_aC a b t F r 3 = F r 3 := by
  unfold sm_aC; rw [if_neg (by omega)]
theorem sm_ad_ad {a b : Nat} (hab : a ≠ b) (t : Int) (x : Nat → Int) : sm_ad (sm_ad x b (-t * x a)) b (t * (sm_ad x b (-t * x a)) a) = x := by
  funext j; unfold sm_ad
  by_cases h : j = b
  · simp only [h, if_true, if_neg hab]; grind
  · simp only [h, if_false]
def sm_Sol (m : Int) (F : Nat → Nat → Int) : Prop := ∃ x : Nat → Int, ∀ r, r < 3 → m ∣ sm_lin F x r - F r 3
theorem sm_Sol_tr {m : Int} {A F V : Nat → Nat → Int} {s : Int} (h : sm_Rch A F V s) : sm_Sol m A ↔ sm_Sol m F := by
  refine sm_tr ?_ ?_ ?_ ?_ h
  · rintro F a b ha hb hab ⟨x, hx⟩; exact ⟨x, fun r hr => hx _ (sm_sg_lt ha hb hr)⟩
  · rintro F a b ha hb hab ⟨x, hx⟩
    refine ⟨fun i => x (sm_sg a b i), fun r hr => ?_⟩
    rw [sm_lin_zC ha hb hab, sm_zC_3 ha hb]
    have e : (fun i => (fun i => x (sm_sg a b i)) (sm_sg a b i)) = x := by funext i; show x _ = _; rw [sm_sg_sg]
    rw [e]; exact hx r hr
  · rintro F a b t ha hb hab ⟨x, hx⟩
    refine ⟨x, fun r hr => ?_⟩
    rw [sm_lin_aR]; unfold sm_aR
    by_cases h : r = a
    · simp only [h, if_true]
      have e : sm_lin F x a + t * sm_lin F x b - (F a 3 + t * F b 3) = (sm_lin F x a - F a 3) + t * (sm_lin F x b - F b 3) := by grind
      rw [e]; exact Int.dvd_add (hx a ha) (sm_dl t (hx b hb))
    · simp only [h, if_false, Int.add_zero]; exact hx r hr
  · rintro F a b t ha hb hab ⟨x, hx⟩
    refine ⟨sm_ad x b (-t * x a), fun r hr => ?_⟩
    rw [sm_lin_aC ha hb hab, sm_aC_3 ha, sm_ad_ad hab]; exact hx r hr
/-- a solution of the reduced system gives one of the first -/
theorem sm_back {A F V : Nat → Nat → Int} {s : Int} (h : sm_Rch A F V s) (w : Nat → Int) (hw : ∀ r, r < 3 → sm_lin F w r = F r 3) :
    ∀ r, r < 3 → sm_lin A (fun i => sm_lin V w i) r = A r 3 := by
  refine h (fun F V _ => ∀ w : Nat → Int, (∀ r, r < 3 → sm_lin F w r = F r 3) → ∀ r, r < 3 → sm_lin A (fun i => sm_lin V w i) r = A r 3) ?_ ?_ w hw
  · intro F V s hF a b ha hb hab
    refine ⟨?_, ?_, fun t => ?_, fun t => ?_⟩
    · intro w hw
      refine hF w fun r hr => ?_
      have := hw (sm_sg a b r) (sm_sg_lt ha hb hr)
      have e : ∀ c, sm_zR a b F (sm_sg a b r) c = F r c := fun c => by unfold sm_zR; rw [sm_sg_sg]
      unfold sm_lin at this ⊢
      rw [e, e, e, e] at this; exact this
    · intro w hw r hr
      have h1 := hF (fun i => w (sm_sg a b i)) (fun r hr => by rw [← sm_lin_zC ha hb hab, hw r hr, sm_zC_3 ha hb]) r hr
      have e : (fun i => sm_lin (sm_zC a b V) w i) = (fun i => sm_lin V (fun i => w (sm_sg a b i)) i) := by
        funext i; exact sm_lin_zC ha hb hab V w i
      rw [e]; exact h1
    · intro w hw
      refine hF w fun r hr => ?_
      have h1 := hw r hr
      have h2 := hw b hb
      rw [sm_lin_aR] at h1 h2
      have hba : ¬ b = a := fun z => hab z.symm
      unfold sm_aR at h1 h2
      rw [if_neg hba, if_neg hba] at h2
      by_cases hra : r = a
      · rw [if_pos hra, if_pos hra] at h1
        have : sm_lin F w b = F b 3 := by omega
        rw [this] at h1; omega
      · rw [if_neg hra, if_neg hra] at h1; omega
    · intro w hw r hr
      have h1 := hF (sm_ad w b (t * w a)) (fun r hr => by rw [← sm_lin_aC ha hb hab, hw r hr, sm_aC_3 ha]) r hr
      have e : (fun i => sm_lin (sm_aC a b t V) w i) = (fun i => sm_lin V (sm_ad w b (t * w a)) i) := by
        funext i; exact sm_lin_aC ha hb hab t V w i
      rw [e]; exact h1
  · intro w hw r hr
    have e : sm_lin A (fun i => sm_lin sm_I w i) r = sm_lin A w r := by
      simp [sm_lin, sm_I]
    rw [e]; exact hw r hr
end
section
/-! sums and counts modulo m -/
def sm_sum : Nat → (Nat → Nat) → Nat
  | 0, _ => 0
  | n + 1, f => sm_sum n f + f n
noncomputable def sm_b (p : Prop) : Nat := @ite Nat p (Classical.propDecidable p) 1 0
theorem sm_b_t {p : Prop} (h : p) : sm_b p = 1 := by unfold sm_b; rw [if_pos h]
theorem sm_b_f {p : Prop} (h : ¬ p) : sm_b p = 0 := by unfold sm_b; rw [if_neg h]
theorem sm_b_c {p q : Prop} (h : p ↔ q) : sm_b p = sm_b q := by rw [propext h]
theorem sm_b_and {p q : Prop} : sm_b (p ∧ q) = sm_b p * sm_b q := by
  by_cases hp : p <;> by_cases hq : q
  · rw [sm_b_t hp, sm_b_t hq, sm_b_t ⟨hp, hq⟩]
  · rw [sm_b_t hp, sm_b_f hq, sm_b_f fun z => hq z.2]
  · rw [sm_b_f hp, sm_b_t hq, sm_b_f fun z => hp z.1]
  · rw [sm_b_f hp, sm_b_f hq, sm_b_f fun z => hp z.1]
theorem sm_sum_c {n : Nat} {f g : Nat → Nat} (h : ∀ i, i < n → f i = g i) : sm_sum n f = sm_sum n g := by
  induction n with
  | zero => rfl
  | succ n ih => show sm_sum n f + f n = sm_sum n g + g n; rw [ih fun i hi => h i (by omega), h n (by omega)]
theorem sm_sum_add (n : Nat) (f g : Nat → Nat) : sm_sum n (fun i => f i + g i) = sm_sum n f + sm_sum n g := by
  induction n with
  | zero => rfl
  | succ n ih => show sm_sum n _ + (f n + g n) = (sm_sum n f + f n) + (sm_sum n g + g n); rw [ih]; omega
theorem sm_sum_mul (n k : Nat) (f : Nat → Nat) : sm_sum n (fun i => k * f i) = k * sm_sum n f := by
  induction n with
  | zero => rfl
  | succ n ih => show sm_sum n _ + k * f n = k * (sm_sum n f + f n); rw [ih, Nat.mul_add]
theorem sm_sum_0 (n : Nat) : sm_sum n (fun _ => 0) = 0 := by
  induction n with
  | zero => rfl
  | succ n ih => show sm_sum n _ + 0 = 0; rw [ih]
theorem sm_sum_1 (n : Nat) : sm_sum n (fun _ => 1) = n := by
  induction n with
  | zero => rfl
  | succ n ih => show sm_sum n _ + 1 = n + 1; rw [ih]
theorem sm_sum_comm (m n : Nat) (f : Nat → Nat → Nat) : sm_sum m (fun i => sm_sum n (fun j => f i j)) = sm_sum n (fun j => sm_sum m (fun i => f i j)) := by
  induction m with
  | zero => exact (sm_sum_0 n).symm
  | succ m ih =>
    show sm_sum m _ + sm_sum n (fun j => f m j) = sm_sum n (fun j => sm_sum m (fun i => f i j) + f m j)
    rw [ih, sm_sum_add]
theorem sm_sum_app (m n : Nat) (f : Nat → Nat) : sm_sum (m + n) f = sm_sum m f + sm_sum n (fun i => f (m + i)) := by
  induction n with
  | zero => rfl
  | succ n ih => show sm_sum (m + n) f + f (m + n) = sm_sum m f + (sm_sum n _ + f (m + n)); rw [ih]; omega
theorem sm_sum_prod (m n : Nat) (f : Nat → Nat) : sm_sum (m * n) f = sm_sum n (fun c => sm_sum m (fun a => f (a + m * c))) := by
  induction n with
  | zero => rfl
  | succ n ih =>
    rw [Nat.mul_succ, sm_sum_app, ih]
    show _ = sm_sum n _ + sm_sum m _
    congr 1; exact sm_sum_c fun i _ => by rw [Nat.add_comm]
theorem sm_shift1 {m : Nat} {g : Int → Nat} (hp : g (m : Int) = g 0) : sm_sum m (fun a => g ((a : Int) + 1)) = sm_sum m (fun a => g (a : Int)) := by
  have h : ∀ n : Nat, sm_sum n (fun a => g ((a : Int) + 1)) + g 0 = sm_sum n (fun a => g (a : Int)) + g (n : Int) := by
    intro n
    induction n with
    | zero => rfl
    | succ n ih =>
      show sm_sum n _ + g ((n : Int) + 1) + g 0 = sm_sum n _ + g (n : Int) + g ((n + 1 : Nat) : Int)
      have : ((n + 1 : Nat) : Int) = (n : Int) + 1 := rfl
      rw [this]; omega
  have := h m; omega
theorem sm_shiftN {m : Nat} : ∀ (s : Nat) {g : Int → Nat}, (∀ x, g (x + m) = g x) → sm_sum m (fun a => g ((a : Int) + s)) = sm_sum m (fun a => g (a : Int)) := by
  intro s
  induction s with
  | zero => intro g hp; exact sm_sum_c fun i _ => by rw [show ((i : Int) + (0 : Nat)) = (i : Int) from by omega]
  | succ s ih =>
    intro g hp
    have h1 := ih (g := fun x => g (x + 1)) (fun x => by show g (x + m + 1) = g (x + 1); rw [show x + m + 1 = (x + 1) + m from by omega, hp])
    have h2 := sm_shift1 (m := m) (g := g) (by have := hp 0; rwa [Int.zero_add] at this)
    rw [← h2, ← h1]
    exact sm_sum_c fun i _ => by rw [show ((i : Int) + (s + 1 : Nat)) = (i : Int) + s + 1 from by omega]
theorem sm_shift {m : Nat} {g : Int → Nat} (hp : ∀ x, g (x + m) = g x) (s : Int) : sm_sum m (fun a => g ((a : Int) + s)) = sm_sum m (fun a => g (a : Int)) := by
  by_cases h : 0 ≤ s
  · obtain ⟨k, rfl⟩ := Int.eq_ofNat_of_zero_le h; exact sm_shiftN k hp
  · obtain ⟨k, hk⟩ := Int.eq_ofNat_of_zero_le (a := -s) (by omega)
    have h1 := sm_shiftN (m := m) k (g := fun x => g (x + s)) (fun x => by show g (x + m + s) = g (x + s); rw [show x + m + s = (x + s) + m from by omega, hp])
    rw [← h1]
    exact sm_sum_c fun i _ => by show g _ = g _; congr 1; omega
def sm_v (x y z : Int) : Nat → Int := fun i => if i = 0 then x else if i = 1 then y else if i = 2 then z else 0
noncomputable def sm_cnt (m : Nat) (P : (Nat → Int) → Prop) : Nat :=
  sm_sum m fun z => sm_sum m fun y => sm_sum m fun x => sm_b (P (sm_v x y z))
theorem sm_cnt_c {m : Nat} {P Q : (Nat → Int) → Prop} (h : ∀ u, P u ↔ Q u) : sm_cnt m P = sm_cnt m Q := by
  have : P = Q := funext fun u => propext (h u)
  rw [this]
theorem sm_ad_v0 (x y z k : Int) : sm_ad (sm_v x y z) 0 k = sm_v (x + k) y z := by
  funext j; unfold sm_ad sm_v; by_cases h : j = 0 <;> simp [h]
theorem sm_ad_v1 (x y z k : Int) : sm_ad (sm_v x y z) 1 k = sm_v x (y + k) z := by
  funext j; unfold sm_ad sm_v; by_cases h : j = 1 <;> simp [h]
theorem sm_ad_v2 (x y z k : Int) : sm_ad (sm_v x y z) 2 k = sm_v x y (z + k) := by
  funext j; unfold sm_ad sm_v; by_cases h : j = 2 <;> simp [h]
/-- a shift of one coordinate by a multiple of another leaves the count -/
theorem sm_cnt_sh {m : Nat} {P : (Nat → Int) → Prop} {a b : Nat} (ha : a < 3) (hb : b < 3) (hab : a ≠ b) (hp : ∀ u, P (sm_ad u b m) ↔ P u) (t : Int) :
    sm_cnt m (fun u => P (sm_ad u b (t * u a))) = sm_cnt m P := by
  unfold sm_cnt
  have hb3 : b = 0 ∨ b = 1 ∨ b = 2 := by omega
  rcases hb3 with rfl | rfl | rfl
  · refine sm_sum_c fun z _ => sm_sum_c fun y _ => ?_
    have e : ∀ x : Nat, sm_v x y z a = sm_v 0 y z a := fun x => by unfold sm_v; rw [if_neg hab, if_neg hab]
    refine Eq.trans (sm_sum_c fun x _ => ?_) (sm_shift (g := fun x => sm_b (P (sm_v x y z))) (fun x => sm_b_c (by have := hp (sm_v x y z); rwa [sm_ad_v0] at this)) (t * sm_v 0 y z a))
    dsimp only
    rw [e, sm_ad_v0]
  · refine sm_sum_c fun z _ => ?_
    rw [sm_sum_comm, sm_sum_comm m m (fun y x => sm_b (P (sm_v x y z)))]
    refine sm_sum_c fun x _ => ?_
    have e : ∀ y : Nat, sm_v x y z a = sm_v x 0 z a := fun y => by
      unfold sm_v; by_cases h0 : a = 0
      · rw [if_pos h0, if_pos h0]
      · rw [if_neg h0, if_neg h0, if_neg hab, if_neg hab]
    refine Eq.trans (sm_sum_c fun y _ => ?_) (sm_shift (g := fun y => sm_b (P (sm_v x y z))) (fun y => sm_b_c (by have := hp (sm_v x y z); rwa [sm_ad_v1] at this)) (t * sm_v x 0 z a))
    dsimp only
    rw [e, sm_ad_v1]
  · rw [sm_sum_comm, sm_sum_comm m m (fun z y => sm_sum m fun x => sm_b (P (sm_v x y z)))]
    refine sm_sum_c fun y _ => ?_
    rw [sm_sum_comm, sm_sum_comm m m (fun z x => sm_b (P (sm_v x y z)))]
    refine sm_sum_c fun x _ => ?_
    have e : ∀ z : Nat, sm_v x y z a = sm_v x y 0 a := fun z => by
      unfold sm_v; by_cases h0 : a = 0
      · rw [if_pos h0, if_pos h0]
      · rw [if_neg h0, if_neg h0]
        by_cases h1 : a = 1
        · rw [if_pos h1, if_pos h1]
        · rw [if_neg h1, if_neg h1, if_neg hab, if_neg hab]
    refine Eq.trans (sm_sum_c fun z _ => ?_) (sm_shift (g := fun z => sm_b (P (sm_v x y z))) (fun z => sm_b_c (by have := hp (sm_v x y z); rwa [sm_ad_v2] at this)) (t * sm_v x y 0 a))
    dsimp only
    rw [e, sm_ad_v2]
/-- the coordinates may change places -/
theorem sm_cnt_sw {m : Nat} {P : (Nat → Int) → Prop} {a b : Nat} (ha : a < 3) (hb : b < 3) (hab : a ≠ b) :
    sm_cnt m (fun u => P (fun i => u (sm_sg a b i))) = sm_cnt m P := by
  unfold sm_cnt
  have h01 : ∀ x y z : Int, (fun i => sm_v x y z (sm_sg 0 1 i)) = sm_v y x z := fun x y z => by
    funext i; unfold sm_v sm_sg; by_cases h0 : i = 0 <;> by_cases h1 : i = 1 <;> simp [h0, h1]
  have h10 : ∀ x y z : Int, (fun i => sm_v x y z (sm_sg 1 0 i)) = sm_v y x z := fun x y z => by
    funext i; unfold sm_v sm_sg; by_cases h0 : i = 0 <;> by_cases h1 : i = 1 <;> simp [h0, h1]
  have h12 : ∀ x y z : Int, (fun i => sm_v x y z (sm_sg 1 2 i)) = sm_v x z y := fun x y z => by
    funext i; unfold sm_v sm_sg; by_cases h0 : i = 1 <;> by_cases h1 : i = 2 <;> simp [h0, h1]
  have h21 : ∀ x y z : Int, (fun i => sm_v x y z (sm_sg 2 1 i)) = sm_v x z y := fun x y z => by
    funext i; unfold sm_v sm_sg; by_cases h0 : i = 1 <;> by_cases h1 : i = 2 <;> simp [h0, h1]
  have h02 : ∀ x y z : Int, (fun i => sm_v x y z (sm_sg 0 2 i)) = sm_v z y x := fun x y z => by
    funext i; unfold sm_v sm_sg; by_cases h0 : i = 0 <;> by_cases h1 : i = 2 <;> simp [h0, h1]
  have h20 : ∀ x y z : Int, (fun i => sm_v x y z (sm_sg 2 0 i)) = sm_v z y x := fun x y z => by
    funext i; unfold sm_v sm_sg; by_cases h0 : i = 0 <;> by_cases h1 : i = 2 <;> simp [h0, h1]
  have e3 : (sm_sum m fun z => sm_sum m fun y => sm_sum m fun x => sm_b (P (sm_v z y x))) = sm_sum m fun z => sm_sum m fun y => sm_sum m fun x => sm_b (P (sm_v x y z)) := by
    have c1 : ∀ f : Nat → Nat → Nat → Nat, (sm_sum m fun z => sm_sum m fun y => sm_sum m fun x => f x y z) = sm_sum m fun y => sm_sum m fun x => sm_sum m fun z => f x y z := fun f => by
      rw [sm_sum_comm]; exact sm_sum_c fun y _ => sm_sum_comm _ _ _
    rw [c1 (fun x y z => sm_b (P (sm_v z y x))), sm_sum_comm m m (fun z y => sm_sum m fun x => sm_b (P (sm_v x y z)))]
  rcases sm_cs ha hb hab with ⟨rfl, rfl⟩ | ⟨rfl, rfl⟩ | ⟨rfl, rfl⟩ | ⟨rfl, rfl⟩ | ⟨rfl, rfl⟩ | ⟨rfl, rfl⟩
  · simp only [h01]; exact sm_sum_c fun z _ => sm_sum_comm _ _ _
  · simp only [h02]; exact e3
  · simp only [h10]; exact sm_sum_c fun z _ => sm_sum_comm _ _ _
  · simp only [h12]; exact sm_sum_comm _ _ _
  · simp only [h20]; exact e3
  · simp only [h21]; exact sm_sum_comm _ _ _
end
section
/-! null counts and image counts: the same for every reachable matrix, and their values for a diagonal one -/
theorem sm_lin_ad {b : Nat} (hb : b < 3) (F : Nat → Nat → Int) (u : Nat → Int) (k : Int) (r : Nat) : sm_lin F (sm_ad u b k) r = sm_lin F u r + k * F r b := by
  have hb3 : b = 0 ∨ b = 1 ∨ b = 2 := by omega
  rcases hb3 with rfl | rfl | rfl <;> simp [sm_lin, sm_ad] <;> grind
def sm_Nul (m : Nat) (F : Nat → Nat → Int) : (Nat → Int) → Prop := fun u => ∀ r, r < 3 → (m : Int) ∣ sm_lin F u r
theorem sm_Nul_per {m : Nat} (F : Nat → Nat → Int) {b : Nat} (hb : b < 3) (u : Nat → Int) : sm_Nul m F (sm_ad u b m) ↔ sm_Nul m F u := by
  constructor
  · intro h r hr
    have := h r hr
    rw [sm_lin_ad hb] at this
    exact (Int.dvd_add_left (Int.dvd_mul_right _ _)).mp this
  · intro h r hr
    rw [sm_lin_ad hb]
    exact Int.dvd_add (h r hr) (Int.dvd_mul_right _ _)
theorem sm_nul_tr {m : Nat} {A F V : Nat → Nat → Int} {s : Int} (h : sm_Rch A F V s) : sm_cnt m (sm_Nul m A) = sm_cnt m (sm_Nul m F) := by
  refine h (fun F _ _ => sm_cnt m (sm_Nul m A) = sm_cnt m (sm_Nul m F)) ?_ rfl
  intro F V s hF a b ha hb hab
  refine ⟨hF.trans (sm_cnt_c fun u => ?_), hF.trans ?_, fun t => hF.trans (sm_cnt_c fun u => ?_), fun t => hF.trans ?_⟩
  · constructor
    · intro q r hr; exact q _ (sm_sg_lt ha hb hr)
    · intro q r hr
      have := q (sm_sg a b r) (sm_sg_lt ha hb hr)
      have e : ∀ c, sm_zR a b F (sm_sg a b r) c = F r c := fun c => by unfold sm_zR; rw [sm_sg_sg]
      unfold sm_lin at this ⊢
      rw [e, e, e] at this; exact this
  · rw [← sm_cnt_sw (P := sm_Nul m F) ha hb hab]
    refine sm_cnt_c fun u => ?_
    constructor
    · intro q r hr; rw [sm_lin_zC ha hb hab]; exact q r hr
    · intro q r hr; have := q r hr; rw [sm_lin_zC ha hb hab] at this; exact this
  · constructor
    · intro q r hr; rw [sm_lin_aR]; exact Int.dvd_add (q r hr) (sm_dif fun _ => sm_dl t (q b hb))
    · intro q r hr
      have h1 := q r hr
      have h2 := q b hb
      have hba : ¬ b = a := fun z => hab z.symm
      rw [sm_lin_aR] at h1 h2
      rw [if_neg hba, Int.add_zero] at h2
      exact (Int.dvd_add_left (sm_dif fun _ => sm_dl t h2)).mp h1
  · rw [← sm_cnt_sh (P := sm_Nul m F) ha hb hab (sm_Nul_per F hb) t]
    refine sm_cnt_c fun u => ?_
    constructor
    · intro q r hr; rw [sm_lin_aC ha hb hab]; exact q r hr
    · intro q r hr; have := q r hr; rw [sm_lin_aC ha hb hab] at this; exact this
def sm_Img (m : Nat) (F : Nat → Nat → Int) : (Nat → Int) → Prop := fun u => ∃ x : Nat → Int, ∀ r, r < 3 → (m : Int) ∣ sm_lin F x r - u r
theorem sm_Img_per1 {m : Nat} (F : Nat → Nat → Int) (b : Nat) (u : Nat → Int) (k : Int) (hk : (m : Int) ∣ k) (h : sm_Img m F u) : sm_Img m F (sm_ad u b k) := by
  obtain ⟨x, hx⟩ := h
  refine ⟨x, fun r hr => ?_⟩
  unfold sm_ad
  split
  · have e : sm_lin F x r - (u r + k) = (sm_lin F x r - u r) - k := by omega
    rw [e]; exact Int.dvd_sub (hx r hr) hk
  · exact hx r hr
theorem sm_Img_per {m : Nat} (F : Nat → Nat → Int) (b : Nat) (u : Nat → Int) : sm_Img m F (sm_ad u b m) ↔ sm_Img m F u := by
  constructor
  · intro h
    have := sm_Img_per1 F b _ (-m) (Int.dvd_neg.mpr (Int.dvd_refl _)) h
    have e : sm_ad (sm_ad u b m) b (-m) = u := by
      funext j; unfold sm_ad; by_cases q : j = b <;> simp [q]; omega
    rwa [e] at this
  · exact sm_Img_per1 F b u _ (Int.dvd_refl _)
theorem sm_img_tr {m : Nat} {A F V : Nat → Nat → Int} {s : Int} (h : sm_Rch A F V s) : sm_cnt m (sm_Img m A) = sm_cnt m (sm_Img m F) := by
  refine h (fun F _ _ => sm_cnt m (sm_Img m A) = sm_cnt m (sm_Img m F)) ?_ rfl
  intro F V s hF a b ha hb hab
  refine ⟨hF.trans ?_, hF.trans (sm_cnt_c fun u => ?_), fun t => hF.trans ?_, fun t => hF.trans (sm_cnt_c fun u => ?_)⟩
  · rw [← sm_cnt_sw (P := sm_Img m F) ha hb hab]
    refine sm_cnt_c fun u => ?_
    constructor
    · rintro ⟨x, hx⟩
      refine ⟨x, fun r hr => ?_⟩
      have := hx _ (sm_sg_lt ha hb hr)
      dsimp only at this; rw [sm_sg_sg] at this
      exact this
    · rintro ⟨x, hx⟩
      refine ⟨x, fun r hr => ?_⟩
      have := hx _ (sm_sg_lt ha hb hr)
      have e : ∀ c, sm_zR a b F (sm_sg a b r) c = F r c := fun c => by unfold sm_zR; rw [sm_sg_sg]
      unfold sm_lin at this ⊢
      rw [e, e, e] at this; exact this
  · constructor
    · rintro ⟨x, hx⟩
      refine ⟨fun i => x (sm_sg a b i), fun r hr => ?_⟩
      rw [sm_lin_zC ha hb hab]
      have e : (fun i => (fun i => x (sm_sg a b i)) (sm_sg a b i)) = x := by funext i; show x _ = _; rw [sm_sg_sg]
      rw [e]; exact hx r hr
    · rintro ⟨x, hx⟩
      refine ⟨fun i => x (sm_sg a b i), fun r hr => ?_⟩
      rw [← sm_lin_zC ha hb hab]; exact hx r hr
  · rw [← sm_cnt_sh (P := sm_Img m F) hb ha (fun z => hab z.symm) (sm_Img_per F a) (-t)]
    refine sm_cnt_c fun u => ?_
    have hba : ¬ b = a := fun z => hab z.symm
    constructor
    · rintro ⟨x, hx⟩
      refine ⟨x, fun r hr => ?_⟩
      have h1 := hx r hr
      have h2 := hx b hb
      rw [sm_lin_aR]
      unfold sm_ad at h1 h2
      rw [if_neg hba] at h2
      by_cases q : r = a
      · rw [if_pos q] at h1 ⊢
        have e : sm_lin F x r + t * sm_lin F x b - u r = (sm_lin F x r - (u r + -t * u b)) + t * (sm_lin F x b - u b) := by grind
        rw [e]; exact Int.dvd_add h1 (sm_dl t h2)
      · rw [if_neg q] at h1 ⊢
        rw [Int.add_zero]; exact h1
    · rintro ⟨x, hx⟩
      refine ⟨x, fun r hr => ?_⟩
      have h1 := hx r hr
      have h2 := hx b hb
      rw [sm_lin_aR] at h1 h2
      rw [if_neg hba, Int.add_zero] at h2
      unfold sm_ad
      by_cases q : r = a
      · rw [if_pos q] at h1 ⊢
        have e : sm_lin F x r - (u r + -t * u b) = (sm_lin F x r + t * sm_lin F x b - u r) - t * (sm_lin F x b - u b) := by grind
        rw [e]; exact Int.dvd_sub h1 (sm_dl t h2)
      · rw [if_neg q] at h1 ⊢
        rw [Int.add_zero] at h1; exact h1
  · constructor
    · rintro ⟨x, hx⟩
      refine ⟨sm_ad x b (-t * x a), fun r hr => ?_⟩
      rw [sm_lin_aC ha hb hab, sm_ad_ad hab]; exact hx r hr
    · rintro ⟨x, hx⟩
      refine ⟨sm_ad x b (t * x a), fun r hr => ?_⟩
      rw [← sm_lin_aC ha hb hab]; exact hx r hr
/-! the diagonal case -/
theorem sm_cnt_prod (m : Nat) (p q r : Int → Prop) : sm_cnt m (fun u => p (u 0) ∧ q (u 1) ∧ r (u 2)) =
    sm_sum m (fun x => sm_b (p x)) * (sm_sum m (fun y => sm_b (q y)) * sm_sum m (fun z => sm_b (r z))) := by
  unfold sm_cnt
  have e : ∀ x y z : Int, sm_b (p (sm_v x y z 0) ∧ q (sm_v x y z 1) ∧ r (sm_v x y z 2)) = sm_b (r z) * (sm_b (q y) * sm_b (p x)) := fun x y z => by
    show sm_b (p x ∧ q y ∧ r z) = _
    rw [sm_b_and, sm_b_and]; grind
  simp only [e]
  have e1 : ∀ z y : Nat, sm_sum m (fun x => sm_b (r z) * (sm_b (q y) * sm_b (p x))) = (sm_b (r z) * sm_sum m (fun x => sm_b (p x))) * sm_b (q y) := fun z y => by
    rw [sm_sum_mul, sm_sum_mul]; grind
  simp only [e1, sm_sum_mul]
  have e2 : ∀ z : Nat, sm_b (r z) * sm_sum m (fun x => sm_b (p x)) * sm_sum m (fun y => sm_b (q y)) = (sm_sum m (fun x => sm_b (p x)) * sm_sum m (fun y => sm_b (q y))) * sm_b (r z) := fun z => by grind
  simp only [e2, sm_sum_mul]
  grind
theorem sm_bez (a : Nat) : ∀ b : Nat, ∃ x y : Int, (a : Int) * x + b * y = Nat.gcd a b := by
  induction a using Nat.strongRecOn with
  | _ a ih =>
    intro b
    by_cases h : a = 0
    · subst h; exact ⟨0, 1, by rw [Nat.gcd_zero_left]; omega⟩
    · obtain ⟨x, y, e⟩ := ih (b % a) (Nat.mod_lt _ (by omega)) a
      refine ⟨y - (b / a : Nat) * x, x, ?_⟩
      rw [Nat.gcd_rec, ← e]
      have hb : (b : Int) = (a : Int) * (b / a : Nat) + (b % a : Nat) := by
        have := Nat.div_add_mod b a
        have h2 : ((a * (b / a) + b % a : Nat) : Int) = (b : Int) := congrArg Int.ofNat this
        rw [← h2, Int.natCast_add, Int.natCast_mul]
      rw [hb]; grind
theorem sm_bezI (d : Int) (m : Nat) : ∃ x y : Int, d * x + m * y = Int.gcd d m := by
  obtain ⟨x, y, e⟩ := sm_bez d.natAbs m
  have hg : Int.gcd d m = Nat.gcd d.natAbs m := by rw [Int.gcd_eq_natAbs_gcd_natAbs]; rfl
  rw [hg, ← e]
  rcases Int.natAbs_eq d with h | h
  · exact ⟨x, y, by rw [← h]⟩
  · refine ⟨-x, y, ?_⟩
    have : (d.natAbs : Int) = -d := by omega
    rw [this]; grind
/-- d x = u modulo m can be solved exactly if the common divisor divides u -/
theorem sm_one (d u : Int) (m : Nat) : (∃ x : Int, (m : Int) ∣ d * x - u) ↔ (Int.gcd d m : Int) ∣ u := by
  constructor
  · rintro ⟨x, hx⟩
    have h1 : (Int.gcd d m : Int) ∣ d * x := Int.dvd_trans (Int.gcd_dvd_left _ _) (Int.dvd_mul_right _ _)
    have h2 : (Int.gcd d m : Int) ∣ d * x - u := Int.dvd_trans (Int.gcd_dvd_right _ _) hx
    have e : u = d * x - (d * x - u) := by omega
    rw [e]; exact Int.dvd_sub h1 h2
  · rintro ⟨k, hk⟩
    obtain ⟨x, y, e⟩ := sm_bezI d m
    refine ⟨x * k, -(y * k), ?_⟩
    rw [hk, ← e]; grind
theorem sm_per_h {h : Nat} (h0 : 0 < h) (c : Nat) : sm_sum h (fun a => sm_b (h ∣ a + h * c)) = 1 := by
  obtain ⟨k, rfl⟩ : ∃ k, h = 1 + k := ⟨h - 1, by omega⟩
  rw [sm_sum_app]
  have e1 : sm_sum 1 (fun a => sm_b ((1 + k) ∣ a + (1 + k) * c)) = 1 := by
    show 0 + sm_b _ = 1
    rw [sm_b_t (by rw [Nat.zero_add]; exact Nat.dvd_mul_right _ _)]
  have e2 : sm_sum k (fun i => sm_b ((1 + k) ∣ 1 + i + (1 + k) * c)) = sm_sum k (fun _ => 0) := by
    refine sm_sum_c fun i hi => sm_b_f fun z => ?_
    have := (Nat.dvd_add_left (Nat.dvd_mul_right (1 + k) c)).mp z
    have := Nat.le_of_dvd (by omega) this
    omega
  rw [e1, e2, sm_sum_0]
theorem sm_mult (h g : Nat) (h0 : 0 < h) : sm_sum (h * g) (fun a => sm_b (h ∣ a)) = g := by
  rw [sm_sum_prod]
  exact (sm_sum_c fun c _ => sm_per_h h0 c).trans (sm_sum_1 g)
theorem sm_gm {d : Int} {m : Nat} (hm : 0 < m) : ∃ h : Nat, 0 < h ∧ m = h * Int.gcd d m ∧ 0 < Int.gcd d m := by
  have hd : Int.gcd d m ∣ m := by have := Int.gcd_dvd_right d m; exact Int.ofNat_dvd.mp this
  obtain ⟨h, e⟩ := hd
  refine ⟨h, ?_, ?_, ?_⟩
  · rcases Nat.eq_zero_or_pos h with z | z
    · rw [z, Nat.mul_zero] at e; omega
    · exact z
  · rw [Nat.mul_comm]; exact e
  · rcases Nat.eq_zero_or_pos (Int.gcd d m) with z | z
    · rw [z, Nat.zero_mul] at e; omega
    · exact z
/-- the multiples that vanish modulo m -/
theorem sm_nul1 (d : Int) {m : Nat} (hm : 0 < m) : sm_sum m (fun x => sm_b ((m : Int) ∣ d * (x : Int))) = Int.gcd d m := by
  obtain ⟨h, h0, e, hg⟩ := sm_gm (d := d) hm
  have e1 : sm_sum m (fun x => sm_b ((m : Int) ∣ d * (x : Int))) = sm_sum m (fun x => sm_b (h ∣ x)) := by
    refine sm_sum_c fun x _ => sm_b_c ?_
    obtain ⟨q, hq⟩ := Int.gcd_dvd_left d m
    constructor
    · intro z
      obtain ⟨a, b, eb⟩ := sm_bezI d m
      have h1 : (m : Int) ∣ (Int.gcd d m : Int) * x := by
        rw [← eb]
        have e2 : (d * a + m * b) * (x : Int) = a * (d * x) + m * (b * x) := by grind
        rw [e2]; exact Int.dvd_add (sm_dl a z) (Int.dvd_mul_right _ _)
      have h2 : m ∣ Int.gcd d m * x := by have h1' : ((m : Nat) : Int) ∣ ((Int.gcd d m * x : Nat) : Int) := by push_cast; exact h1
                                          exact Int.ofNat_dvd.mp h1'
      obtain ⟨k, ek⟩ := h2
      refine ⟨k, ?_⟩
      have h3 : Int.gcd d m * x = Int.gcd d m * (h * k) := by rw [ek]; conv => lhs; rw [e]
                                                              grind
      exact Nat.eq_of_mul_eq_mul_left hg h3
    · rintro ⟨k, ek⟩
      refine ⟨q * k, ?_⟩
      rw [ek]
      have e3 : (m : Int) = (h : Int) * (Int.gcd d m : Nat) := by exact_mod_cast e
      push_cast
      have e4 : d * ((h : Int) * k) = ((Int.gcd d m : Int) * q) * (h * k) := by rw [← hq]
      rw [e4, e3]; grind
  rw [e1]
  conv => lhs; rw [e]
  exact sm_mult h _ h0
/-- the values modulo m -/
theorem sm_img1 (d : Int) {m : Nat} (hm : 0 < m) : sm_sum m (fun u => sm_b (∃ x : Int, (m : Int) ∣ d * x - (u : Int))) * Int.gcd d m = m := by
  obtain ⟨h, h0, e, hg⟩ := sm_gm (d := d) hm
  have e1 : sm_sum m (fun u => sm_b (∃ x : Int, (m : Int) ∣ d * x - (u : Int))) = sm_sum m (fun u => sm_b (Int.gcd d m ∣ u)) :=
    sm_sum_c fun u _ => sm_b_c ((sm_one d u m).trans Int.ofNat_dvd)
  have e2 : sm_sum m (fun u => sm_b (Int.gcd d m ∣ u)) = h := by
    have := sm_mult (Int.gcd d m) h hg
    rw [show Int.gcd d m * h = m by rw [Nat.mul_comm]; exact e.symm] at this; exact this
  rw [e1, e2]; exact e.symm
def sm_Dg (F : Nat → Nat → Int) : Prop := ∀ r c, r < 3 → c < 3 → r ≠ c → F r c = 0
theorem sm_lin_dg {F : Nat → Nat → Int} (h : sm_Dg F) (x : Nat → Int) {r : Nat} (hr : r < 3) : sm_lin F x r = F r r * x r := by
  have hr3 : r = 0 ∨ r = 1 ∨ r = 2 := by omega
  unfold sm_lin
  rcases hr3 with rfl | rfl | rfl
  · rw [h 0 1 (by omega) (by omega) (by omega), h 0 2 (by omega) (by omega) (by omega)]; grind
  · rw [h 1 0 (by omega) (by omega) (by omega), h 1 2 (by omega) (by omega) (by omega)]; grind
  · rw [h 2 0 (by omega) (by omega) (by omega), h 2 1 (by omega) (by omega) (by omega)]; grind
theorem sm_all3 {p : Nat → Prop} : (∀ r, r < 3 → p r) ↔ p 0 ∧ p 1 ∧ p 2 := by
  constructor
  · intro h; exact ⟨h 0 (by omega), h 1 (by omega), h 2 (by omega)⟩
  · rintro ⟨h0, h1, h2⟩ r hr
    have hr3 : r = 0 ∨ r = 1 ∨ r = 2 := by omega
    rcases hr3 with rfl | rfl | rfl <;> assumption
theorem sm_nul_dg {F : Nat → Nat → Int} (h : sm_Dg F) {m : Nat} (hm : 0 < m) :
    sm_cnt m (sm_Nul m F) = Int.gcd (F 0 0) m * (Int.gcd (F 1 1) m * Int.gcd (F 2 2) m) := by
  rw [← sm_nul1 (F 0 0) hm, ← sm_nul1 (F 1 1) hm, ← sm_nul1 (F 2 2) hm]
  refine Eq.trans (sm_cnt_c fun u => ?_) (sm_cnt_prod m (fun x => (m : Int) ∣ F 0 0 * x) (fun x => (m : Int) ∣ F 1 1 * x) (fun x => (m : Int) ∣ F 2 2 * x))
  unfold sm_Nul
  rw [sm_all3, sm_lin_dg h u (by omega), sm_lin_dg h u (by omega), sm_lin_dg h u (by omega)]
theorem sm_img_dg {F : Nat → Nat → Int} (h : sm_Dg F) {m : Nat} (hm : 0 < m) :
    sm_cnt m (sm_Img m F) * (Int.gcd (F 0 0) m * (Int.gcd (F 1 1) m * Int.gcd (F 2 2) m)) = m * m * m := by
  have e : sm_cnt m (sm_Img m F) = sm_sum m (fun u => sm_b (∃ x : Int, (m : Int) ∣ F 0 0 * x - (u : Int))) * (sm_sum m (fun u => sm_b (∃ x : Int, (m : Int) ∣ F 1 1 * x - (u : Int))) * sm_sum m (fun u => sm_b (∃ x : Int, (m : Int) ∣ F 2 2 * x - (u : Int)))) := by
    refine Eq.trans (sm_cnt_c fun u => ?_) (sm_cnt_prod m (fun u => ∃ x : Int, (m : Int) ∣ F 0 0 * x - u) (fun u => ∃ x : Int, (m : Int) ∣ F 1 1 * x - u) (fun u => ∃ x : Int, (m : Int) ∣ F 2 2 * x - u))
    constructor
    · rintro ⟨x, hx⟩
      refine ⟨⟨x 0, ?_⟩, ⟨x 1, ?_⟩, ⟨x 2, ?_⟩⟩
      · have := hx 0 (by omega); rwa [sm_lin_dg h x (by omega)] at this
      · have := hx 1 (by omega); rwa [sm_lin_dg h x (by omega)] at this
      · have := hx 2 (by omega); rwa [sm_lin_dg h x (by omega)] at this
    · rintro ⟨⟨x, hx⟩, ⟨y, hy⟩, ⟨z, hz⟩⟩
      refine ⟨sm_v x y z, sm_all3.mpr ⟨?_, ?_, ?_⟩⟩
      · rw [sm_lin_dg h _ (by omega)]; exact hx
      · rw [sm_lin_dg h _ (by omega)]; exact hy
      · rw [sm_lin_dg h _ (by omega)]; exact hz
  have h0 := sm_img1 (F 0 0) hm
  have h1 := sm_img1 (F 1 1) hm
  have h2 := sm_img1 (F 2 2) hm
  rw [e]
  generalize sm_sum m (fun u => sm_b (∃ x : Int, (m : Int) ∣ F 0 0 * x - (u : Int))) = a0 at *
  generalize sm_sum m (fun u => sm_b (∃ x : Int, (m : Int) ∣ F 1 1 * x - (u : Int))) = a1 at *
  generalize sm_sum m (fun u => sm_b (∃ x : Int, (m : Int) ∣ F 2 2 * x - (u : Int))) = a2 at *
  generalize Int.gcd (F 0 0) m = g0 at *
  generalize Int.gcd (F 1 1) m = g1 at *
  generalize Int.gcd (F 2 2) m = g2 at *
  have e3 : a0 * (a1 * a2) * (g0 * (g1 * g2)) = (a0 * g0) * (a1 * g1) * (a2 * g2) := by grind
  rw [e3, h0, h1, h2]
theorem sm_Sol_dg {F : Nat → Nat → Int} (h : sm_Dg F) {m : Nat} : sm_Sol m F ↔ ∀ r, r < 3 → (Int.gcd (F r r) m : Int) ∣ F r 3 := by
  constructor
  · rintro ⟨x, hx⟩ r hr
    refine (sm_one _ _ _).mp ⟨x r, ?_⟩
    have := hx r hr; rwa [sm_lin_dg h x hr] at this
  · intro q
    obtain ⟨x, hx⟩ := (sm_one _ _ m).mpr (q 0 (by omega))
    obtain ⟨y, hy⟩ := (sm_one _ _ m).mpr (q 1 (by omega))
    obtain ⟨z, hz⟩ := (sm_one _ _ m).mpr (q 2 (by omega))
    refine ⟨sm_v x y z, sm_all3.mpr ⟨?_, ?_, ?_⟩⟩
    · rw [sm_lin_dg h _ (by omega)]; exact hx
    · rw [sm_lin_dg h _ (by omega)]; exact hy
    · rw [sm_lin_dg h _ (by omega)]; exact hz
end
section
/-! what a diagonal form says of the first matrix -/
def sm_DD (k n : Nat) (g : Int) (F : Nat → Nat → Int) : Prop := (k = 0 → g ∣ 1) ∧ (k = 1 → sm_D1 n g F) ∧ (k = 2 → sm_D2 n g F) ∧ (k = 3 → sm_D3 n g F)
theorem sm_DD_1 {n : Nat} {g : Int} {F : Nat → Nat → Int} : sm_DD 1 n g F ↔ sm_D1 n g F :=
  ⟨fun h => h.2.1 rfl, fun h => ⟨fun z => by omega, fun _ => h, fun z => by omega, fun z => by omega⟩⟩
theorem sm_DD_2 {n : Nat} {g : Int} {F : Nat → Nat → Int} : sm_DD 2 n g F ↔ sm_D2 n g F :=
  ⟨fun h => h.2.2.1 rfl, fun h => ⟨fun z => by omega, fun z => by omega, fun _ => h, fun z => by omega⟩⟩
theorem sm_DD_3 {n : Nat} {g : Int} {F : Nat → Nat → Int} : sm_DD 3 n g F ↔ sm_D3 n g F :=
  ⟨fun h => h.2.2.2 rfl, fun h => ⟨fun z => by omega, fun z => by omega, fun z => by omega, fun _ => h⟩⟩
theorem sm_DD_0 {n : Nat} {g : Int} {F : Nat → Nat → Int} : sm_DD 0 n g F ↔ g ∣ 1 :=
  ⟨fun h => h.1 rfl, fun h => ⟨fun _ => h, fun z => by omega, fun z => by omega, fun z => by omega⟩⟩
/-- G is the common divisor of the minors of size k of the first n columns -/
def sm_isG (k n : Nat) (A : Nat → Nat → Int) (G : Int) : Prop := 0 ≤ G ∧ ∀ g, g ∣ G ↔ sm_DD k n g A
theorem sm_dv_eq {a b : Int} (ha : 0 ≤ a) (hb : 0 ≤ b) (h : ∀ g : Int, g ∣ a ↔ g ∣ b) : a = b :=
  Int.dvd_antisymm ha hb ((h a).mp (Int.dvd_refl _)) ((h b).mpr (Int.dvd_refl _))
theorem sm_isG_u {k n : Nat} {A : Nat → Nat → Int} {G : Int} (h : sm_isG k n A G) {x : Int} (hx : ∀ g, sm_DD k n g A ↔ g ∣ x) : G = x.natAbs :=
  sm_dv_eq h.1 (by omega) fun g => ((h.2 g).trans (hx g)).trans Int.dvd_natAbs.symm
def sm_Fin (A F V : Nat → Nat → Int) (s : Int) (rk : Nat) : Prop :=
  sm_Rch A F V s ∧ sm_Dg F ∧ F 0 0 ∣ F 1 1 ∧ F 1 1 ∣ F 2 2 ∧ rk ≤ 3 ∧ ∀ k, k < 3 → (F k k ≠ 0 ↔ k < rk)
theorem sm_k3 {k : Nat} (h : k < 3) : k = 0 ∨ k = 1 ∨ k = 2 := by omega
theorem sm_k4 {k : Nat} (h : k < 4) : k = 0 ∨ k = 1 ∨ k = 2 ∨ k = 3 := by omega
theorem sm_d0 {F : Nat → Nat → Int} (h : sm_Dg F) : F 0 1 = 0 ∧ F 0 2 = 0 ∧ F 1 0 = 0 ∧ F 1 2 = 0 ∧ F 2 0 = 0 ∧ F 2 1 = 0 :=
  ⟨h 0 1 (by omega) (by omega) (by omega), h 0 2 (by omega) (by omega) (by omega), h 1 0 (by omega) (by omega) (by omega), h 1 2 (by omega) (by omega) (by omega), h 2 0 (by omega) (by omega) (by omega), h 2 1 (by omega) (by omega) (by omega)⟩
theorem sm_D1_dg {F : Nat → Nat → Int} (h : sm_Dg F) (h1 : F 0 0 ∣ F 1 1) (h2 : F 1 1 ∣ F 2 2) (g : Int) : sm_D1 3 g F ↔ g ∣ F 0 0 := by
  constructor
  · intro q; exact q 0 0 (by omega) (by omega)
  · intro q i k hi hk
    by_cases e : i = k
    · subst e
      rcases sm_k3 hi with rfl | rfl | rfl
      · exact q
      · exact Int.dvd_trans q h1
      · exact Int.dvd_trans q (Int.dvd_trans h1 h2)
    · rw [h i k hi hk e]; exact Int.dvd_zero _
theorem sm_D2_dg {F : Nat → Nat → Int} (h : sm_Dg F) (h1 : F 0 0 ∣ F 1 1) (h2 : F 1 1 ∣ F 2 2) (g : Int) : sm_D2 3 g F ↔ g ∣ F 0 0 * F 1 1 := by
  obtain ⟨z1, z2, z3, z4, z5, z6⟩ := sm_d0 h
  constructor
  · intro q
    have := q 0 1 0 1 (by omega) (by omega) (by omega) (by omega)
    unfold sm_m2 at this; rw [z1, Int.zero_mul, Int.sub_zero] at this; exact this
  · intro q
    have q2 : g ∣ F 0 0 * F 2 2 := Int.dvd_trans q (Int.mul_dvd_mul (Int.dvd_refl _) h2)
    have q3 : g ∣ F 1 1 * F 2 2 := Int.dvd_trans q2 (Int.mul_dvd_mul h1 (Int.dvd_refl _))
    obtain ⟨a, ea⟩ := q
    obtain ⟨b, eb⟩ := q2
    obtain ⟨c, ec⟩ := q3
    intro i j k l hi hj hk hl
    unfold sm_m2
    rcases sm_k3 hi with rfl | rfl | rfl <;> rcases sm_k3 hj with rfl | rfl | rfl <;> rcases sm_k3 hk with rfl | rfl | rfl <;> rcases sm_k3 hl with rfl | rfl | rfl <;>
      simp only [z1, z2, z3, z4, z5, z6, Int.mul_zero, Int.zero_mul, Int.sub_zero, Int.zero_sub, Int.sub_self, Int.dvd_zero, Int.neg_zero, Int.dvd_neg] <;>
      first
        | exact ⟨a, ea⟩
        | exact ⟨b, eb⟩
        | exact ⟨c, ec⟩
        | exact ⟨a, by rw [Int.mul_comm]; exact ea⟩
        | exact ⟨b, by rw [Int.mul_comm]; exact eb⟩
        | exact ⟨c, by rw [Int.mul_comm]; exact ec⟩
theorem sm_m3_dg {F : Nat → Nat → Int} (h : sm_Dg F) : sm_m3 F 0 1 2 = F 0 0 * F 1 1 * F 2 2 := by
  obtain ⟨z1, z2, z3, z4, z5, z6⟩ := sm_d0 h
  unfold sm_m3; rw [z1, z2, z3, z4, z5, z6]; grind
/-- all minors of size three of three columns are the one, up to sign -/
theorem sm_D3_3 (F : Nat → Nat → Int) (g : Int) : sm_D3 3 g F ↔ g ∣ sm_m3 F 0 1 2 := by
  constructor
  · intro q; exact q 0 1 2 (by omega) (by omega) (by omega)
  · rintro ⟨a, ea⟩ c d e hc hd he
    rcases sm_k3 hc with rfl | rfl | rfl <;> rcases sm_k3 hd with rfl | rfl | rfl <;> rcases sm_k3 he with rfl | rfl | rfl <;>
      first
        | exact ⟨a, ea⟩
        | exact ⟨0, by unfold sm_m3; grind⟩
        | exact ⟨a, by rw [← ea]; unfold sm_m3; grind⟩
        | exact ⟨-a, by rw [Int.mul_neg, ← ea]; unfold sm_m3; grind⟩
theorem sm_G1 {A F V : Nat → Nat → Int} {s : Int} {rk : Nat} (h : sm_Fin A F V s rk) {G : Int} (hG : sm_isG 1 3 A G) : G = (F 0 0).natAbs :=
  sm_isG_u hG fun g => sm_DD_1.trans ((sm_D1_tr (by omega) h.1).trans (sm_D1_dg h.2.1 h.2.2.1 h.2.2.2.1 g))
theorem sm_G2 {A F V : Nat → Nat → Int} {s : Int} {rk : Nat} (h : sm_Fin A F V s rk) {G : Int} (hG : sm_isG 2 3 A G) : G = (F 0 0 * F 1 1).natAbs :=
  sm_isG_u hG fun g => sm_DD_2.trans ((sm_D2_tr (by omega) h.1).trans (sm_D2_dg h.2.1 h.2.2.1 h.2.2.2.1 g))
theorem sm_G3 {A F V : Nat → Nat → Int} {s : Int} {rk : Nat} (h : sm_Fin A F V s rk) {G : Int} (hG : sm_isG 3 3 A G) : G = (F 0 0 * F 1 1 * F 2 2).natAbs :=
  sm_isG_u hG fun g => sm_DD_3.trans ((sm_D3_tr (by omega) h.1).trans ((sm_D3_3 F g).trans (by rw [sm_m3_dg h.2.1])))
theorem sm_G0 {n : Nat} {A : Nat → Nat → Int} {G : Int} (hG : sm_isG 0 n A G) : G = 1 :=
  sm_isG_u hG (x := 1) fun g => sm_DD_0
/-- the rank that the common divisors give -/
def sm_rk (G1 G2 G3 : Int) : Nat := if G3 = 0 then (if G2 = 0 then (if G1 = 0 then 0 else 1) else 2) else 3
theorem sm_rank {A F V : Nat → Nat → Int} {s : Int} {rk : Nat} (h : sm_Fin A F V s rk) {G1 G2 G3 : Int} (h1 : sm_isG 1 3 A G1) (h2 : sm_isG 2 3 A G2) (h3 : sm_isG 3 3 A G3) :
    sm_rk G1 G2 G3 = rk := by
  have e1 := sm_G1 h h1
  have e2 := sm_G2 h h2
  have e3 := sm_G3 h h3
  obtain ⟨-, -, -, -, hr, hk⟩ := h
  have k0 := hk 0 (by omega)
  have k1 := hk 1 (by omega)
  have k2 := hk 2 (by omega)
  have n1 : G1 = 0 ↔ F 0 0 = 0 := by rw [e1]; omega
  have n2 : G2 = 0 ↔ (F 0 0 = 0 ∨ F 1 1 = 0) := by rw [e2, ← Int.mul_eq_zero]; omega
  have n3 : G3 = 0 ↔ ((F 0 0 = 0 ∨ F 1 1 = 0) ∨ F 2 2 = 0) := by rw [e3, ← Int.mul_eq_zero, ← Int.mul_eq_zero]; omega
  unfold sm_rk
  split
  · split
    · split
      · omega
      · omega
    · omega
  · omega
/-! the right side -/
theorem sm_D1_4 (F : Nat → Nat → Int) (g : Int) : sm_D1 4 g F ↔ sm_D1 3 g F ∧ ∀ r, r < 3 → g ∣ F r 3 := by
  constructor
  · intro q; exact ⟨fun i k hi hk => q i k hi (by omega), fun r hr => q r 3 hr (by omega)⟩
  · rintro ⟨q1, q2⟩ i k hi hk
    by_cases e : k = 3
    · subst e; exact q2 i hi
    · exact q1 i k hi (by omega)
theorem sm_D2_4 (F : Nat → Nat → Int) (g : Int) : sm_D2 4 g F ↔ sm_D2 3 g F ∧ ∀ i j k, i < 3 → j < 3 → k < 3 → g ∣ sm_m2 F i j k 3 := by
  constructor
  · intro q; exact ⟨fun i j k l hi hj hk hl => q i j k l hi hj (by omega) (by omega), fun i j k hi hj hk => q i j k 3 hi hj (by omega) (by omega)⟩
  · rintro ⟨q1, q2⟩ i j k l hi hj hk hl
    by_cases e : k = 3
    · subst e
      by_cases e : l = 3
      · subst e; have : sm_m2 F i j 3 3 = 0 := by unfold sm_m2; grind
        rw [this]; exact Int.dvd_zero _
      · have := q2 i j l hi hj (by omega)
        have e2 : sm_m2 F i j 3 l = - sm_m2 F i j l 3 := by unfold sm_m2; grind
        rw [e2]; exact Int.dvd_neg.mpr this
    · by_cases e : l = 3
      · subst e; exact q2 i j k hi hj (by omega)
      · exact q1 i j k l hi hj (by omega) (by omega)
theorem sm_D3_4 (F : Nat → Nat → Int) (g : Int) : sm_D3 4 g F ↔ sm_D3 3 g F ∧ ∀ c d, c < 3 → d < 3 → g ∣ sm_m3 F c d 3 := by
  constructor
  · intro q; exact ⟨fun c d e hc hd he => q c d e (by omega) (by omega) (by omega), fun c d hc hd => q c d 3 (by omega) (by omega) (by omega)⟩
  · rintro ⟨q1, q2⟩ c d e hc hd he
    have z1 : ∀ a, sm_m3 F a 3 3 = 0 := fun a => by unfold sm_m3; grind
    have z2 : ∀ a, sm_m3 F 3 a 3 = 0 := fun a => by unfold sm_m3; grind
    have z3 : ∀ a, sm_m3 F 3 3 a = 0 := fun a => by unfold sm_m3; grind
    have s1 : ∀ a b, sm_m3 F 3 a b = sm_m3 F a b 3 := fun a b => by unfold sm_m3; grind
    have s2 : ∀ a b, sm_m3 F a 3 b = - sm_m3 F a b 3 := fun a b => by unfold sm_m3; grind
    by_cases c3 : c = 3
    · subst c3
      by_cases d3 : d = 3
      · subst d3; rw [z3]; exact Int.dvd_zero _
      · by_cases e3 : e = 3
        · subst e3; rw [z2]; exact Int.dvd_zero _
        · rw [s1]; exact q2 d e (by omega) (by omega)
    · by_cases d3 : d = 3
      · subst d3
        by_cases e3 : e = 3
        · subst e3; rw [z1]; exact Int.dvd_zero _
        · rw [s2]; exact Int.dvd_neg.mpr (q2 c e (by omega) (by omega))
      · by_cases e3 : e = 3
        · subst e3; exact q2 c d (by omega) (by omega)
        · exact q1 c d e (by omega) (by omega) (by omega)
theorem sm_m2_r {F : Nat → Nat → Int} (h : sm_Dg F) {i j k : Nat} (hi : i < 3) (hj : j < 3) (hk : k < 3) :
    sm_m2 F i j k 3 = (if k = i then F i i * F j 3 else 0) - (if k = j then F j j * F i 3 else 0) := by
  unfold sm_m2
  by_cases e1 : k = i
  · subst e1
    by_cases e2 : k = j
    · subst e2; simp only [if_true]; grind
    · rw [if_pos rfl, if_neg e2, h j k hj hk (fun z => e2 z.symm)]; grind
  · rw [if_neg e1, h i k hi hk (fun z => e1 z.symm)]
    by_cases e2 : k = j
    · subst e2; rw [if_pos rfl]; grind
    · rw [if_neg e2, h j k hj hk (fun z => e2 z.symm)]; grind
/-- if each diagonal number divides its right side, the right side changes no common divisor -/
theorem sm_aug {F : Nat → Nat → Int} (h : sm_Dg F) (h1 : F 0 0 ∣ F 1 1) (h2 : F 1 1 ∣ F 2 2) (hc : ∀ r, r < 3 → F r r ∣ F r 3) (g : Int) :
    (sm_D1 4 g F ↔ sm_D1 3 g F) ∧ (sm_D2 4 g F ↔ sm_D2 3 g F) ∧ (sm_D3 4 g F ↔ sm_D3 3 g F) := by
  refine ⟨(sm_D1_4 F g).trans ⟨fun q => q.1, fun q => ⟨q, fun r hr => Int.dvd_trans (q r r hr hr) (hc r hr)⟩⟩,
    (sm_D2_4 F g).trans ⟨fun q => q.1, fun q => ⟨q, fun i j k hi hj hk => ?_⟩⟩,
    (sm_D3_4 F g).trans ⟨fun q => q.1, fun q => ⟨q, fun c d hc' hd => ?_⟩⟩⟩
  · have key : ∀ i j, i < 3 → j < 3 → i ≠ j → g ∣ F i i * F j 3 := fun i j hi hj hij => by
      refine Int.dvd_trans ?_ (Int.mul_dvd_mul (Int.dvd_refl (F i i)) (hc j hj))
      have := q i j i j hi hj hi hj
      unfold sm_m2 at this; rw [h i j hi hj hij, Int.zero_mul, Int.sub_zero] at this; exact this
    by_cases e : i = j
    · subst e
      have : sm_m2 F i i k 3 = 0 := by unfold sm_m2; grind
      rw [this]; exact Int.dvd_zero _
    · rw [sm_m2_r h hi hj hk]
      exact Int.dvd_sub (sm_dif fun _ => key i j hi hj e) (sm_dif fun _ => key j i hj hi (fun z => e z.symm))
  · have qd := (sm_D3_3 F g).mp q
    rw [sm_m3_dg h] at qd
    obtain ⟨a0, e0⟩ := hc 0 (by omega)
    obtain ⟨a1, e1⟩ := hc 1 (by omega)
    obtain ⟨a2, e2⟩ := hc 2 (by omega)
    obtain ⟨z1, z2, z3, z4, z5, z6⟩ := sm_d0 h
    obtain ⟨y, ey⟩ := qd
    have k0 : g ∣ F 1 1 * F 2 2 * F 0 3 := ⟨y * a0, by rw [e0]; grind⟩
    have k1 : g ∣ F 0 0 * F 2 2 * F 1 3 := ⟨y * a1, by rw [e1]; grind⟩
    have k2 : g ∣ F 0 0 * F 1 1 * F 2 3 := ⟨y * a2, by rw [e2]; grind⟩
    obtain ⟨b0, f0⟩ := k0
    obtain ⟨b1, f1⟩ := k1
    obtain ⟨b2, f2⟩ := k2
    rcases sm_k3 hc' with rfl | rfl | rfl <;> rcases sm_k3 hd with rfl | rfl | rfl <;> unfold sm_m3 <;> simp only [z1, z2, z3, z4, z5, z6]
    · exact ⟨0, by grind⟩
    · exact ⟨b2, by grind⟩
    · exact ⟨-b1, by grind⟩
    · exact ⟨-b2, by grind⟩
    · exact ⟨0, by grind⟩
    · exact ⟨b0, by grind⟩
    · exact ⟨b1, by grind⟩
    · exact ⟨-b0, by grind⟩
    · exact ⟨0, by grind⟩
end
section
/-! the answers that the diagonal form gives -/
theorem sm_dv_can {a b c : Int} (ha : a ≠ 0) (h : a * b ∣ a * c) : b ∣ c := by
  obtain ⟨k, hk⟩ := h
  refine ⟨k, ?_⟩
  have : a * c = a * (b * k) := by rw [hk]; grind
  exact Int.eq_of_mul_eq_mul_left ha this
theorem sm_dvd_nA {a b : Int} {G : Int} (e : G = a.natAbs) (h : G ∣ b) : a ∣ b := Int.natAbs_dvd.mp (by rw [← e]; exact h)
/-- solvable in whole numbers: by the diagonal form and by ranks and common divisors -/
theorem sm_solv {A F V : Nat → Nat → Int} {s : Int} {rk : Nat} (h : sm_Fin A F V s rk) {G1 G2 G3 H1 H2 H3 : Int}
    (g1 : sm_isG 1 3 A G1) (g2 : sm_isG 2 3 A G2) (g3 : sm_isG 3 3 A G3) (k1 : sm_isG 1 4 A H1) (k2 : sm_isG 2 4 A H2) (k3 : sm_isG 3 4 A H3) :
    (∀ r, r < 3 → F r r ∣ F r 3) ↔ (sm_rk H1 H2 H3 = rk ∧ (rk = 1 → G1 = H1) ∧ (rk = 2 → G2 = H2) ∧ (rk = 3 → G3 = H3)) := by
  have t1 : ∀ g, g ∣ H1 ↔ sm_D1 4 g F := fun g => (k1.2 g).trans (sm_DD_1.trans (sm_D1_tr (by omega) h.1))
  have t2 : ∀ g, g ∣ H2 ↔ sm_D2 4 g F := fun g => (k2.2 g).trans (sm_DD_2.trans (sm_D2_tr (by omega) h.1))
  have t3 : ∀ g, g ∣ H3 ↔ sm_D3 4 g F := fun g => (k3.2 g).trans (sm_DD_3.trans (sm_D3_tr (by omega) h.1))
  have u1 : ∀ g, g ∣ G1 ↔ sm_D1 3 g F := fun g => (g1.2 g).trans (sm_DD_1.trans (sm_D1_tr (by omega) h.1))
  have u2 : ∀ g, g ∣ G2 ↔ sm_D2 3 g F := fun g => (g2.2 g).trans (sm_DD_2.trans (sm_D2_tr (by omega) h.1))
  have u3 : ∀ g, g ∣ G3 ↔ sm_D3 3 g F := fun g => (g3.2 g).trans (sm_DD_3.trans (sm_D3_tr (by omega) h.1))
  have hrk := sm_rank h g1 g2 g3
  constructor
  · intro hc
    have e1 : H1 = G1 := sm_dv_eq k1.1 g1.1 fun g => (t1 g).trans ((sm_aug h.2.1 h.2.2.1 h.2.2.2.1 hc g).1.trans (u1 g).symm)
    have e2 : H2 = G2 := sm_dv_eq k2.1 g2.1 fun g => (t2 g).trans ((sm_aug h.2.1 h.2.2.1 h.2.2.2.1 hc g).2.1.trans (u2 g).symm)
    have e3 : H3 = G3 := sm_dv_eq k3.1 g3.1 fun g => (t3 g).trans ((sm_aug h.2.1 h.2.2.1 h.2.2.2.1 hc g).2.2.trans (u3 g).symm)
    rw [e1, e2, e3]; exact ⟨hrk, fun _ => rfl, fun _ => rfl, fun _ => rfl⟩
  · rintro ⟨hH, q1, q2, q3⟩
    have e1 := sm_G1 h g1
    have e2 := sm_G2 h g2
    have e3 := sm_G3 h g3
    have a1 := (sm_D1_4 F H1).mp ((t1 H1).mp (Int.dvd_refl _))
    have a2 := (sm_D2_4 F H2).mp ((t2 H2).mp (Int.dvd_refl _))
    have a3 := (sm_D3_4 F H3).mp ((t3 H3).mp (Int.dvd_refl _))
    obtain ⟨-, hD, hd1, hd2, hr, hk⟩ := h
    obtain ⟨z1, z2, z3, z4, z5, z6⟩ := sm_d0 hD
    have k0 := hk 0 (by omega)
    have k1' := hk 1 (by omega)
    have k2' := hk 2 (by omega)
    have b01 : H2 ∣ F 0 0 * F 1 3 := by have := a2.2 0 1 0 (by omega) (by omega) (by omega); unfold sm_m2 at this; rw [z3, Int.mul_zero, Int.sub_zero] at this; exact this
    have b02 : H2 ∣ F 0 0 * F 2 3 := by have := a2.2 0 2 0 (by omega) (by omega) (by omega); unfold sm_m2 at this; rw [z5, Int.mul_zero, Int.sub_zero] at this; exact this
    have b10 : H2 ∣ F 1 1 * F 0 3 := by have := a2.2 1 0 1 (by omega) (by omega) (by omega); unfold sm_m2 at this; rw [z1, Int.mul_zero, Int.sub_zero] at this; exact this
    have c2 : H3 ∣ F 0 0 * F 1 1 * F 2 3 := by
      have := a3.2 0 1 (by omega) (by omega)
      have e : sm_m3 F 0 1 3 = F 0 0 * F 1 1 * F 2 3 := by unfold sm_m3; simp only [z1, z2, z3, z4, z5, z6]; grind
      rw [e] at this; exact this
    have c1 : H3 ∣ F 0 0 * F 2 2 * F 1 3 := by
      have := a3.2 0 2 (by omega) (by omega)
      have e : sm_m3 F 0 2 3 = - (F 0 0 * F 2 2 * F 1 3) := by unfold sm_m3; simp only [z1, z2, z3, z4, z5, z6]; grind
      rw [e] at this; exact Int.dvd_neg.mp this
    have c0 : H3 ∣ F 1 1 * F 2 2 * F 0 3 := by
      have := a3.2 1 2 (by omega) (by omega)
      have e : sm_m3 F 1 2 3 = F 1 1 * F 2 2 * F 0 3 := by unfold sm_m3; simp only [z1, z2, z3, z4, z5, z6]; grind
      rw [e] at this; exact this
    have zz : ∀ {x y : Int}, x ≠ 0 → x * y = 0 → y = 0 := fun hx hy => (Int.mul_eq_zero.mp hy).resolve_left hx
    have r4 : rk = 0 ∨ rk = 1 ∨ rk = 2 ∨ rk = 3 := by omega
    unfold sm_rk at hH
    rcases r4 with r | r | r | r
    · have f0 : F 0 0 = 0 := by omega
      have f1 : F 1 1 = 0 := by omega
      have f2 : F 2 2 = 0 := by omega
      have hz : H1 = 0 := by
        rw [r] at hH
        split at hH
        · split at hH
          · split at hH
            · assumption
            · omega
          · omega
        · omega
      refine sm_all3.mpr ⟨?_, ?_, ?_⟩
      · rw [f0, ← hz]; exact a1.2 0 (by omega)
      · rw [f1, ← hz]; exact a1.2 1 (by omega)
      · rw [f2, ← hz]; exact a1.2 2 (by omega)
    · have f0 : F 0 0 ≠ 0 := by omega
      have f1 : F 1 1 = 0 := by omega
      have f2 : F 2 2 = 0 := by omega
      have hz : H2 = 0 := by
        rw [r] at hH
        split at hH
        · split at hH
          · assumption
          · omega
        · omega
      have hg := q1 r
      refine sm_all3.mpr ⟨?_, ?_, ?_⟩
      · exact sm_dvd_nA (e1.symm.trans hg).symm (a1.2 0 (by omega)) 
      · rw [hz] at b01; rw [zz f0 (Int.zero_dvd.mp b01)]; exact Int.dvd_zero _
      · rw [hz] at b02; rw [zz f0 (Int.zero_dvd.mp b02)]; exact Int.dvd_zero _
    · have f0 : F 0 0 ≠ 0 := by omega
      have f1 : F 1 1 ≠ 0 := by omega
      have f2 : F 2 2 = 0 := by omega
      have hz : H3 = 0 := by
        rw [r] at hH
        split at hH
        · assumption
        · omega
      have hg : H2 = (F 0 0 * F 1 1).natAbs := (e2.symm.trans (q2 r)).symm
      have d01 := sm_dvd_nA hg b01
      have d10 := sm_dvd_nA hg b10
      refine sm_all3.mpr ⟨?_, ?_, ?_⟩
      · rw [Int.mul_comm (F 0 0) (F 1 1)] at d10; exact sm_dv_can f1 d10
      · exact sm_dv_can f0 d01
      · rw [hz] at c2; rw [zz (Int.mul_ne_zero f0 f1) (Int.zero_dvd.mp c2)]; exact Int.dvd_zero _
    · have f0 : F 0 0 ≠ 0 := by omega
      have f1 : F 1 1 ≠ 0 := by omega
      have f2 : F 2 2 ≠ 0 := by omega
      have hg : H3 = (F 0 0 * F 1 1 * F 2 2).natAbs := (e3.symm.trans (q3 r)).symm
      have d0 := sm_dvd_nA hg c0
      have d1 := sm_dvd_nA hg c1
      have d2 := sm_dvd_nA hg c2
      refine sm_all3.mpr ⟨?_, ?_, ?_⟩
      · rw [show F 0 0 * F 1 1 * F 2 2 = (F 1 1 * F 2 2) * F 0 0 from by grind] at d0; exact sm_dv_can (Int.mul_ne_zero f1 f2) d0
      · rw [show F 0 0 * F 1 1 * F 2 2 = (F 0 0 * F 2 2) * F 1 1 from by grind] at d1; exact sm_dv_can (Int.mul_ne_zero f0 f2) d1
      · exact sm_dv_can (Int.mul_ne_zero f0 f1) d2
/-- the unique solution: Cramer -/
theorem sm_cramer {A : Nat → Nat → Int} {z : Nat → Int} (h : ∀ r, r < 3 → sm_lin A z r = A r 3) :
    sm_m3 A 3 1 2 = sm_m3 A 0 1 2 * z 0 ∧ sm_m3 A 0 3 2 = sm_m3 A 0 1 2 * z 1 ∧ sm_m3 A 0 1 3 = sm_m3 A 0 1 2 * z 2 := by
  have h0 := h 0 (by omega)
  have h1 := h 1 (by omega)
  have h2 := h 2 (by omega)
  unfold sm_lin at h0 h1 h2
  unfold sm_m3
  rw [← h0, ← h1, ← h2]
  refine ⟨?_, ?_, ?_⟩ <;> grind
theorem sm_only {A F V : Nat → Nat → Int} {s : Int} {rk : Nat} (h : sm_Fin A F V s rk) (w : Nat → Int) (hw : ∀ r, r < 3 → F r r * w r = F r 3) :
    sm_m3 A 3 1 2 = sm_m3 A 0 1 2 * sm_lin V w 0 ∧ sm_m3 A 0 3 2 = sm_m3 A 0 1 2 * sm_lin V w 1 ∧ sm_m3 A 0 1 3 = sm_m3 A 0 1 2 * sm_lin V w 2 :=
  sm_cramer (sm_back h.1 w fun r hr => by rw [sm_lin_dg h.2.1 w hr]; exact hw r hr)
theorem sm_deter {A F V : Nat → Nat → Int} {s : Int} {rk : Nat} (h : sm_Fin A F V s rk) : sm_m3 A 0 1 2 = s * (F 0 0 * F 1 1 * F 2 2) := by
  rw [(sm_det_tr h.1).1, sm_m3_dg h.2.1]
end
section
/-! the steps of the reduction, over Int -/
def sm_sC (k r : Nat) (F : Nat → Nat → Int) : Nat → Nat → Int := sm_aR r k (-((F r k).tdiv (F k k))) F
def sm_sR (k c : Nat) (F : Nat → Nat → Int) : Nat → Nat → Int := sm_aC c k (-((F k c).tdiv (F k k))) F
def sm_lC (k : Nat) : Nat → Nat → (Nat → Nat → Int) → (Nat → Nat → Int)
  | _, 0, F => F
  | r, n + 1, F => sm_lC k (r + 1) n (sm_sC k r F)
def sm_lR (k : Nat) : Nat → Nat → (Nat → Nat → Int) → (Nat → Nat → Int)
  | _, 0, F => F
  | r, n + 1, F => sm_lR k (r + 1) n (sm_sR k r F)
def sm_cC (k : Nat) (F : Nat → Nat → Int) : Nat → Nat → Int := sm_lC k (k + 1) (2 - k) F
def sm_cR (k : Nat) (F : Nat → Nat → Int) : Nat → Nat → Int := sm_lR k (k + 1) (2 - k) F
/-- one round at place k -/
def sm_rd (k : Nat) (F : Nat → Nat → Int) : Nat → Nat → Int := sm_cR k (sm_cC k F)
def sm_clean (k : Nat) (F : Nat → Nat → Int) : Prop := ∀ i, k < i → i < 3 → F i k = 0 ∧ F k i = 0
def sm_rdiv (k r : Nat) (F : Nat → Nat → Int) : Prop := ∀ c, k < c → c < 3 → F k k ∣ F r c
def sm_divs (k : Nat) (F : Nat → Nat → Int) : Prop := ∀ r, k < r → r < 3 → sm_rdiv k r F
/-- row i is the first below k with a number that the pivot doesn't divide -/
def sm_fst (k i : Nat) (F : Nat → Nat → Int) : Prop := k < i ∧ i < 3 ∧ ¬ sm_rdiv k i F ∧ ∀ r, k < r → r < i → sm_rdiv k r F
def sm_add (k i : Nat) (F : Nat → Nat → Int) : Nat → Nat → Int := sm_cR k (sm_aR k i 1 F)
def sm_lex (r c row col : Nat) : Prop := r < row ∨ (r = row ∧ c < col)
/-- (row, col) is the first place with the smallest number other than 0 of what is left -/
def sm_brg (k : Nat) (F : Nat → Nat → Int) (row col : Nat) : Prop :=
  k ≤ row ∧ row < 3 ∧ k ≤ col ∧ col < 3 ∧ F row col ≠ 0 ∧
    ∀ r c, k ≤ r → r < 3 → k ≤ c → c < 3 → F r c ≠ 0 → (F row col).natAbs ≤ (F r c).natAbs ∧ (sm_lex r c row col → (F row col).natAbs < (F r c).natAbs)
def sm_zz (k row col : Nat) (F : Nat → Nat → Int) : Nat → Nat → Int := sm_zC col k (sm_zR row k F)
/-- the numbers of what is left are small -/
def sm_rng (k : Nat) (F : Nat → Nat → Int) : Prop := ∀ r c, k ≤ r → r < 3 → k ≤ c → c < 3 → (F r c).natAbs < 4611686018427387904
/-- what a loop's statement Q at place k must give -/
def sm_Step (k : Nat) (Q Nx : (Nat → Nat → Int) → Prop) : Prop :=
  ∀ F, Q F → F k k ≠ 0 ∧ sm_rng k F ∧ sm_rng k (sm_rd k F) ∧
    (sm_clean k (sm_rd k F) → sm_divs k (sm_rd k F) → Nx (sm_rd k F)) ∧
    (¬ sm_clean k (sm_rd k F) → ∀ row col, sm_brg k (sm_rd k F) row col → Q (sm_zz k row col (sm_rd k F)) ∧ (sm_rd k F row col).natAbs < (F k k).natAbs) ∧
    (sm_clean k (sm_rd k F) → ∀ i, sm_fst k i (sm_rd k F) → sm_rng k (sm_add k i (sm_rd k F)) ∧
      ∀ row col, sm_brg k (sm_add k i (sm_rd k F)) row col → Q (sm_zz k row col (sm_add k i (sm_rd k F))) ∧ (sm_add k i (sm_rd k F) row col).natAbs < (F k k).natAbs)
/-! arithmetic -/
theorem sm_tm (a p : Int) : a + -(a.tdiv p) * p = a.tmod p := by rw [Int.tmod_def]; grind
theorem sm_tmlt (a : Int) {p : Int} (hp : p ≠ 0) : (a.tmod p).natAbs < p.natAbs := by
  rw [Int.natAbs_tmod]; exact Nat.mod_lt _ (by omega)
theorem sm_nmul {x y : Int} {a b : Nat} (hx : x.natAbs ≤ a) (hy : y.natAbs ≤ b) : (x * y).natAbs ≤ a * b := by
  rw [Int.natAbs_mul]; exact Nat.mul_le_mul hx hy
/-! the bound of the determinant -/
theorem sm_l3 {v1 v2 v3 a b c : Int} (h1 : v1.natAbs ≤ 9) (h2 : v2.natAbs ≤ 9) (h3 : v3.natAbs ≤ 9) :
    (v1 * a + v2 * b + v3 * c).natAbs ≤ 9 * (a.natAbs + b.natAbs + c.natAbs) := by
  have e1 : (v1 * a).natAbs ≤ 9 * a.natAbs := sm_nmul h1 (Nat.le_refl _)
  have e2 : (v2 * b).natAbs ≤ 9 * b.natAbs := sm_nmul h2 (Nat.le_refl _)
  have e3 : (v3 * c).natAbs ≤ 9 * c.natAbs := sm_nmul h3 (Nat.le_refl _)
  generalize v1 * a = x at *
  generalize v2 * b = y at *
  generalize v3 * c = z at *
  omega
theorem sm_ep (x : Int) : ∃ e : Int, (e = 1 ∨ e = -1) ∧ (x.natAbs : Int) = e * x := by
  rcases Int.natAbs_eq x with h | h
  · exact ⟨1, Or.inl rfl, by omega⟩
  · exact ⟨-1, Or.inr rfl, by omega⟩
theorem sm_x3 {v1 v2 v3 w1 w2 w3 : Int} (h1 : v1.natAbs ≤ 9) (h2 : v2.natAbs ≤ 9) (h3 : v3.natAbs ≤ 9) (k1 : w1.natAbs ≤ 9) (k2 : w2.natAbs ≤ 9) (k3 : w3.natAbs ≤ 9) :
    (v2 * w3 - v3 * w2).natAbs + (v1 * w3 - v3 * w1).natAbs + (v1 * w2 - v2 * w1).natAbs ≤ 324 := by
  obtain ⟨e1, f1, q1⟩ := sm_ep (v2 * w3 - v3 * w2)
  obtain ⟨e2, f2, q2⟩ := sm_ep (v1 * w3 - v3 * w1)
  obtain ⟨e3, f3, q3⟩ := sm_ep (v1 * w2 - v2 * w1)
  have key := sm_l3 (a := e2 * w3 + e3 * w2) (b := e1 * w3 - e3 * w1) (c := -(e1 * w2) - e2 * w1) h1 h2 h3
  have hs : (e2 * w3 + e3 * w2).natAbs + (e1 * w3 - e3 * w1).natAbs + (-(e1 * w2) - e2 * w1).natAbs ≤ 36 := by
    rcases f1 with rfl | rfl <;> rcases f2 with rfl | rfl <;> rcases f3 with rfl | rfl <;> omega
  have hq : v1 * (e2 * w3 + e3 * w2) + v2 * (e1 * w3 - e3 * w1) + v3 * (-(e1 * w2) - e2 * w1) = e1 * (v2 * w3 - v3 * w2) + e2 * (v1 * w3 - v3 * w1) + e3 * (v1 * w2 - v2 * w1) := by grind
  rw [hq, ← q1, ← q2, ← q3] at key
  omega
/-- all numbers within 9, the right side too -/
def sm_nine (F : Nat → Nat → Int) : Prop := ∀ r c, r < 3 → c < 4 → (F r c).natAbs ≤ 9
theorem sm_m3_9 {F : Nat → Nat → Int} (h : sm_nine F) {c d e : Nat} (hc : c < 4) (hd : d < 4) (he : e < 4) : (sm_m3 F c d e).natAbs ≤ 2916 := by
  have hx := sm_x3 (h 1 c (by omega) hc) (h 1 d (by omega) hd) (h 1 e (by omega) he) (h 2 c (by omega) hc) (h 2 d (by omega) hd) (h 2 e (by omega) he)
  have hl := sm_l3 (a := F 1 d * F 2 e - F 1 e * F 2 d) (b := -(F 1 c * F 2 e - F 1 e * F 2 c)) (c := F 1 c * F 2 d - F 1 d * F 2 c) (h 0 c (by omega) hc) (h 0 d (by omega) hd) (h 0 e (by omega) he)
  have e1 : sm_m3 F c d e = F 0 c * (F 1 d * F 2 e - F 1 e * F 2 d) + F 0 d * -(F 1 c * F 2 e - F 1 e * F 2 c) + F 0 e * (F 1 c * F 2 d - F 1 d * F 2 c) := by unfold sm_m3; grind
  rw [e1]
  rw [Int.natAbs_neg] at hl
  omega
end
section
/-! bounds by minors, for the first place -/
def sm_AM (F : Nat → Nat → Int) (X N C T : Nat) : Prop :=
  (∀ i, i < 3 → (F i 3).natAbs ≤ X) ∧ (∀ i j k l, i < 3 → j < 3 → k < 3 → l < 3 → (sm_m2 F i j k l).natAbs ≤ N) ∧
  (∀ i j k, i < 3 → j < 3 → k < 3 → (sm_m2 F i j k 3).natAbs ≤ C) ∧ (∀ c d, c < 3 → d < 3 → (sm_m3 F c d 3).natAbs ≤ T) ∧ (sm_m3 F 0 1 2).natAbs ≤ 2916
def sm_PB (F : Nat → Nat → Int) (X N C T : Nat) : Prop :=
  (F 0 3).natAbs ≤ X ∧ (∀ i j, 1 ≤ i → i < 3 → 1 ≤ j → j < 3 → (sm_m2 F 0 i 0 j).natAbs ≤ N) ∧
  (∀ i, 1 ≤ i → i < 3 → (sm_m2 F 0 i 0 3).natAbs ≤ C) ∧ (∀ j, 1 ≤ j → j < 3 → (sm_m3 F 0 j 3).natAbs ≤ T) ∧ (sm_m3 F 0 1 2).natAbs ≤ 2916
def sm_Nrm (F : Nat → Nat → Int) : Prop := ∀ i, 1 ≤ i → i < 3 → (F 0 i).natAbs < (F 0 0).natAbs ∧ (F i 0).natAbs < (F 0 0).natAbs
theorem sm_AM_PB {F : Nat → Nat → Int} {X N C T : Nat} (h : sm_AM F X N C T) : sm_PB F X N C T :=
  ⟨h.1 0 (by omega), fun i j _ hi _ hj => h.2.1 0 i 0 j (by omega) hi (by omega) hj, fun i _ hi => h.2.2.1 0 i 0 (by omega) hi (by omega), fun j _ hj => h.2.2.2.1 0 j (by omega) hj, h.2.2.2.2⟩
theorem sm_zR_s (a : Nat) (F : Nat → Nat → Int) : sm_zR a a F = F := by
  funext r c; unfold sm_zR sm_sg; by_cases h : r = a <;> simp [h]
theorem sm_zC_s (a : Nat) (F : Nat → Nat → Int) : sm_zC a a F = F := by
  funext r c; unfold sm_zC sm_sg; by_cases h : c = a <;> simp [h]
theorem sm_m3n_zR {F : Nat → Nat → Int} {a b : Nat} (ha : a < 3) (hb : b < 3) (c d e : Nat) : (sm_m3 (sm_zR a b F) c d e).natAbs = (sm_m3 F c d e).natAbs := by
  by_cases h : a = b
  · subst h; rw [sm_zR_s]
  · rw [sm_m3_zR ha hb h, Int.natAbs_neg]
theorem sm_m3n_zC {F : Nat → Nat → Int} {a b : Nat} (ha : a < 3) (hb : b < 3) : (sm_m3 (sm_zC a b F) 0 1 2).natAbs = (sm_m3 F 0 1 2).natAbs := by
  by_cases h : a = b
  · subst h; rw [sm_zC_s]
  · have e : sm_m3 (sm_zC a b F) 0 1 2 = - sm_m3 F 0 1 2 := by
      rcases sm_cs ha hb h with ⟨rfl, rfl⟩ | ⟨rfl, rfl⟩ | ⟨rfl, rfl⟩ | ⟨rfl, rfl⟩ | ⟨rfl, rfl⟩ | ⟨rfl, rfl⟩ <;>
        simp [sm_m3, sm_zC, sm_sg] <;> grind
    rw [e, Int.natAbs_neg]
theorem sm_AM_zz {F : Nat → Nat → Int} {X N C T : Nat} (h : sm_AM F X N C T) {k row col : Nat} (hk : k < 3) (hr : row < 3) (hc : col < 3) : sm_AM (sm_zz k row col F) X N C T := by
  obtain ⟨h1, h2, h3, h4, h5⟩ := h
  refine ⟨fun i hi => ?_, fun i j a l hi hj ha hl => ?_, fun i j a hi hj ha => ?_, fun c d hc' hd => ?_, ?_⟩
  · show (F (sm_sg row k i) (sm_sg col k 3)).natAbs ≤ X
    rw [sm_sg_3 hc hk]; exact h1 _ (sm_sg_lt hr hk hi)
  · exact h2 _ _ _ _ (sm_sg_lt hr hk hi) (sm_sg_lt hr hk hj) (sm_sg_lt hc hk ha) (sm_sg_lt hc hk hl)
  · have := h3 _ _ _ (sm_sg_lt hr hk hi) (sm_sg_lt hr hk hj) (sm_sg_lt hc hk ha)
    show (F (sm_sg row k i) (sm_sg col k a) * F (sm_sg row k j) (sm_sg col k 3) - F (sm_sg row k i) (sm_sg col k 3) * F (sm_sg row k j) (sm_sg col k a)).natAbs ≤ C
    rw [sm_sg_3 hc hk]; exact this
  · show (sm_m3 (sm_zR row k F) (sm_sg col k c) (sm_sg col k d) (sm_sg col k 3)).natAbs ≤ T
    rw [sm_sg_3 hc hk, sm_m3n_zR hr hk]; exact h4 _ _ (sm_sg_lt hc hk hc') (sm_sg_lt hc hk hd)
  · show (sm_m3 (sm_zC col k (sm_zR row k F)) 0 1 2).natAbs ≤ 2916
    rw [sm_m3n_zC hc hk, sm_m3n_zR hr hk]; exact h5
theorem sm_PB_aR {F : Nat → Nat → Int} {X N C T : Nat} (h : sm_PB F X N C T) {a : Nat} (h1 : 1 ≤ a) (ha : a < 3) (t : Int) : sm_PB (sm_aR a 0 t F) X N C T := by
  have z : ∀ c d, sm_m2 F 0 0 c d = 0 := fun c d => by unfold sm_m2; grind
  refine ⟨?_, fun i j hi hi' hj hj' => ?_, fun i hi hi' => ?_, fun j hj hj' => ?_, ?_⟩
  · unfold sm_aR; rw [if_neg (by omega)]; exact h.1
  · rw [sm_m2_aR, if_neg (by omega), z, Int.mul_zero]
    have e : (if i = a then (0 : Int) else 0) = 0 := by split <;> rfl
    rw [e, Int.add_zero, Int.add_zero]; exact h.2.1 i j hi hi' hj hj'
  · rw [sm_m2_aR, if_neg (by omega), z, Int.mul_zero]
    have e : (if i = a then (0 : Int) else 0) = 0 := by split <;> rfl
    rw [e, Int.add_zero, Int.add_zero]; exact h.2.2.1 i hi hi'
  · rw [sm_m3_aR ha (by omega) (by omega)]; exact h.2.2.2.1 j hj hj'
  · rw [sm_m3_aR ha (by omega) (by omega)]; exact h.2.2.2.2
theorem sm_PB_aC {F : Nat → Nat → Int} {X N C T : Nat} (h : sm_PB F X N C T) {a : Nat} (h1 : 1 ≤ a) (ha : a < 3) (t : Int) : sm_PB (sm_aC a 0 t F) X N C T := by
  have z : ∀ i, sm_m2 F 0 i 0 0 = 0 := fun i => by unfold sm_m2; grind
  have z1 : ∀ e, sm_m3 F 0 0 e = 0 := fun e => by unfold sm_m3; grind
  have z2 : ∀ e, sm_m3 F 0 e 0 = 0 := fun e => by unfold sm_m3; grind
  have i0 : ∀ p : Prop, ∀ [Decidable p], (if p then (0 : Int) else 0) = 0 := fun p _ => by split <;> rfl
  refine ⟨?_, fun i j hi hi' hj hj' => ?_, fun i hi hi' => ?_, fun j hj hj' => ?_, ?_⟩
  · unfold sm_aC; rw [if_neg (by omega)]; exact h.1
  · rw [sm_m2_aC, if_neg (by omega), z, Int.mul_zero, i0, Int.add_zero, Int.add_zero]; exact h.2.1 i j hi hi' hj hj'
  · rw [sm_m2_aC, if_neg (by omega), if_neg (by omega), Int.add_zero, Int.add_zero]; exact h.2.2.1 i hi hi'
  · rw [sm_m3_aC, if_neg (by omega), z1, Int.mul_zero, i0, if_neg (by omega), Int.add_zero, Int.add_zero, Int.add_zero]; exact h.2.2.2.1 j hj hj'
  · rw [sm_m3_aC, if_neg (by omega), z1, Int.mul_zero, i0, z2, Int.mul_zero, i0, Int.add_zero, Int.add_zero, Int.add_zero]; exact h.2.2.2.2
theorem sm_rd0 (F : Nat → Nat → Int) : sm_rd 0 F = sm_aC 2 0 (-((F 0 2).tdiv (F 0 0))) (sm_aC 1 0 (-((F 0 1).tdiv (F 0 0))) (sm_aR 2 0 (-((F 2 0).tdiv (F 0 0))) (sm_aR 1 0 (-((F 1 0).tdiv (F 0 0))) F))) := rfl
theorem sm_add0 (i : Nat) (h1 : 1 ≤ i) (F : Nat → Nat → Int) : sm_add 0 i F = sm_aC 2 0 (-((F 0 2 + 1 * F i 2).tdiv (F 0 0 + 1 * F i 0))) (sm_aC 1 0 (-((F 0 1 + 1 * F i 1).tdiv (F 0 0 + 1 * F i 0))) (sm_aR 0 i 1 F)) := rfl
theorem sm_PB_rd {F : Nat → Nat → Int} {X N C T : Nat} (h : sm_PB F X N C T) : sm_PB (sm_rd 0 F) X N C T := by
  rw [sm_rd0]
  exact sm_PB_aC (sm_PB_aC (sm_PB_aR (sm_PB_aR h (by omega) (by omega) _) (by omega) (by omega) _) (by omega) (by omega) _) (by omega) (by omega) _
theorem sm_e00 (F : Nat → Nat → Int) : sm_rd 0 F 0 0 = F 0 0 := rfl
theorem sm_e0j (F : Nat → Nat → Int) {j : Nat} (h1 : 1 ≤ j) (h : j < 3) : sm_rd 0 F 0 j = (F 0 j).tmod (F 0 0) := by
  have : j = 1 ∨ j = 2 := by omega
  rcases this with rfl | rfl
  · exact sm_tm _ _
  · exact sm_tm _ _
theorem sm_ei0 (F : Nat → Nat → Int) {j : Nat} (h1 : 1 ≤ j) (h : j < 3) : sm_rd 0 F j 0 = (F j 0).tmod (F 0 0) := by
  have : j = 1 ∨ j = 2 := by omega
  rcases this with rfl | rfl
  · exact sm_tm _ _
  · exact sm_tm _ _
theorem sm_eij (F : Nat → Nat → Int) {i j : Nat} (h1 : 1 ≤ i) (h : i < 3) (k1 : 1 ≤ j) (k : j < 3) :
    sm_rd 0 F i j = F i j + -((F i 0).tdiv (F 0 0)) * F 0 j + -((F 0 j).tdiv (F 0 0)) * sm_rd 0 F i 0 := by
  have : i = 1 ∨ i = 2 := by omega
  have : j = 1 ∨ j = 2 := by omega
  rcases ‹i = 1 ∨ i = 2› with rfl | rfl <;> rcases ‹j = 1 ∨ j = 2› with rfl | rfl <;> rfl
theorem sm_e03 (F : Nat → Nat → Int) : sm_rd 0 F 0 3 = F 0 3 := rfl
theorem sm_ei3 (F : Nat → Nat → Int) {i : Nat} (h1 : 1 ≤ i) (h : i < 3) : sm_rd 0 F i 3 = F i 3 + -((F i 0).tdiv (F 0 0)) * F 0 3 := by
  have : i = 1 ∨ i = 2 := by omega
  rcases this with rfl | rfl <;> rfl
theorem sm_Nrm_rd {F : Nat → Nat → Int} (hp : F 0 0 ≠ 0) : sm_Nrm (sm_rd 0 F) := by
  intro i h1 hi
  rw [sm_e0j F h1 hi, sm_ei0 F h1 hi, sm_e00]
  exact ⟨sm_tmlt _ hp, sm_tmlt _ hp⟩
theorem sm_cn {p x : Int} {P a b : Nat} (hP : p.natAbs = P) (h0 : 0 < P) (e : (p * x).natAbs ≤ b) (hb : b ≤ P * a) : x.natAbs ≤ a := by
  rw [Int.natAbs_mul, hP] at e
  exact Nat.le_of_mul_le_mul_left (Nat.le_trans e hb) h0
theorem sm_n2 {x y : Int} {a b : Nat} (hx : x.natAbs ≤ a) (hy : y.natAbs ≤ b) : (x - y).natAbs ≤ a + b :=
  Nat.le_trans (Int.natAbs_sub_le x y) (Nat.add_le_add hx hy)
theorem sm_n3 {x y : Int} {a b : Nat} (hx : x.natAbs ≤ a) (hy : y.natAbs ≤ b) : (x + y).natAbs ≤ a + b :=
  Nat.le_trans (Int.natAbs_add_le x y) (Nat.add_le_add hx hy)
theorem sm_all2 {F : Nat → Nat → Int} {N : Nat} (h : ∀ i j k l, i < j → j < 3 → k < l → l < 3 → (sm_m2 F i j k l).natAbs ≤ N) :
    ∀ i j k l, i < 3 → j < 3 → k < 3 → l < 3 → (sm_m2 F i j k l).natAbs ≤ N := by
  have h2 : ∀ i j k l, i < j → j < 3 → k < 3 → l < 3 → (sm_m2 F i j k l).natAbs ≤ N := by
    intro i j k l hij hj hk hl
    rcases Nat.lt_trichotomy k l with z | z | z
    · exact h i j k l hij hj z hl
    · subst z; have : sm_m2 F i j k k = 0 := by unfold sm_m2; grind
      rw [this]; exact Nat.zero_le _
    · have e : sm_m2 F i j k l = - sm_m2 F i j l k := by unfold sm_m2; grind
      rw [e, Int.natAbs_neg]; exact h i j l k hij hj z hk
  intro i j k l hi hj hk hl
  rcases Nat.lt_trichotomy i j with z | z | z
  · exact h2 i j k l z hj hk hl
  · subst z; have : sm_m2 F i i k l = 0 := by unfold sm_m2; grind
    rw [this]; exact Nat.zero_le _
  · have e : sm_m2 F i j k l = - sm_m2 F j i k l := by unfold sm_m2; grind
    rw [e, Int.natAbs_neg]; exact h2 j i k l z hi hk hl
theorem sm_pair {i j : Nat} (hij : i < j) (hj : j < 3) : (i = 0 ∧ j = 1) ∨ (i = 0 ∧ j = 2) ∨ (i = 1 ∧ j = 2) := by omega
/-- from the minors that hold the pivot to all of them -/
theorem sm_PB_AM {F : Nat → Nat → Int} {P X N C T Bm Bc X' N' C' T' : Nat} (hP : (F 0 0).natAbs = P) (h0 : 0 < P) (hn : sm_Nrm F) (h : sm_PB F X N C T)
    (hX : ∀ i, i < 3 → (F i 3).natAbs ≤ X') (i1 : 2 * ((P - 1) * N) ≤ P * Bm) (i2 : 2 * ((P - 1) * C) ≤ P * Bc) (i3 : N ≤ N') (i4 : Bm ≤ N')
    (i5 : 2916 + 2 * ((P - 1) * Bm) ≤ P * N') (i6 : C ≤ C') (i7 : Bc ≤ C') (i8 : (P - 1) * C + X * N ≤ P * C') (i9 : T + (P - 1) * Bc + X * Bm ≤ P * C')
    (i10 : T ≤ T') (i11 : 2 * ((P - 1) * T) + X * 2916 ≤ P * T') : sm_AM F X' N' C' T' := by
  obtain ⟨p1, p2, p3, p4, p5⟩ := h
  have r1 : (F 0 1).natAbs ≤ P - 1 := by have := (hn 1 (by omega) (by omega)).1; omega
  have r2 : (F 0 2).natAbs ≤ P - 1 := by have := (hn 2 (by omega) (by omega)).1; omega
  have s1 : (F 1 0).natAbs ≤ P - 1 := by have := (hn 1 (by omega) (by omega)).2; omega
  have s2 : (F 2 0).natAbs ≤ P - 1 := by have := (hn 2 (by omega) (by omega)).2; omega
  have rj : ∀ j, 1 ≤ j → j < 3 → (F 0 j).natAbs ≤ P - 1 := fun j h1 h2 => by have := (hn j h1 h2).1; omega
  have bA : ∀ i, 1 ≤ i → i < 3 → (sm_m2 F 0 i 1 2).natAbs ≤ Bm := by
    intro i h1 h2
    refine sm_cn hP h0 (b := (P - 1) * N + (P - 1) * N) ?_ (by omega)
    have e : F 0 0 * sm_m2 F 0 i 1 2 = F 0 1 * sm_m2 F 0 i 0 2 - F 0 2 * sm_m2 F 0 i 0 1 := by unfold sm_m2; grind
    rw [e]; exact sm_n2 (sm_nmul r1 (p2 i 2 h1 h2 (by omega) (by omega))) (sm_nmul r2 (p2 i 1 h1 h2 (by omega) (by omega)))
  have bB : ∀ j, 1 ≤ j → j < 3 → (sm_m2 F 1 2 0 j).natAbs ≤ Bm := by
    intro j h1 h2
    refine sm_cn hP h0 (b := (P - 1) * N + (P - 1) * N) ?_ (by omega)
    have e : F 0 0 * sm_m2 F 1 2 0 j = F 1 0 * sm_m2 F 0 2 0 j - F 2 0 * sm_m2 F 0 1 0 j := by unfold sm_m2; grind
    rw [e]; exact sm_n2 (sm_nmul s1 (p2 2 j (by omega) (by omega) h1 h2)) (sm_nmul s2 (p2 1 j (by omega) (by omega) h1 h2))
  have bE : (sm_m2 F 1 2 1 2).natAbs ≤ N' := by
    refine sm_cn hP h0 (b := 2916 + (P - 1) * Bm + (P - 1) * Bm) ?_ (by omega)
    have e : F 0 0 * sm_m2 F 1 2 1 2 = sm_m3 F 0 1 2 + F 0 1 * sm_m2 F 1 2 0 2 - F 0 2 * sm_m2 F 1 2 0 1 := by unfold sm_m2 sm_m3; grind
    rw [e]; exact sm_n2 (sm_n3 p5 (sm_nmul r1 (bB 2 (by omega) (by omega)))) (sm_nmul r2 (bB 1 (by omega) (by omega)))
  have bAc : ∀ i j, 1 ≤ i → i < 3 → 1 ≤ j → j < 3 → (sm_m2 F 0 i j 3).natAbs ≤ C' := by
    intro i j h1 h2 h3 h4
    refine sm_cn hP h0 (b := (P - 1) * C + X * N) ?_ i8
    have e : F 0 0 * sm_m2 F 0 i j 3 = F 0 j * sm_m2 F 0 i 0 3 - F 0 3 * sm_m2 F 0 i 0 j := by unfold sm_m2; grind
    rw [e]; exact sm_n2 (sm_nmul (rj j h3 h4) (p3 i h1 h2)) (sm_nmul p1 (p2 i j h1 h2 h3 h4))
  have bBc : (sm_m2 F 1 2 0 3).natAbs ≤ Bc := by
    refine sm_cn hP h0 (b := (P - 1) * C + (P - 1) * C) ?_ (by omega)
    have e : F 0 0 * sm_m2 F 1 2 0 3 = F 1 0 * sm_m2 F 0 2 0 3 - F 2 0 * sm_m2 F 0 1 0 3 := by unfold sm_m2; grind
    rw [e]; exact sm_n2 (sm_nmul s1 (p3 2 (by omega) (by omega))) (sm_nmul s2 (p3 1 (by omega) (by omega)))
  have bEc : ∀ j, 1 ≤ j → j < 3 → (sm_m2 F 1 2 j 3).natAbs ≤ C' := by
    intro j h1 h2
    refine sm_cn hP h0 (b := T + (P - 1) * Bc + X * Bm) ?_ i9
    have e : F 0 0 * sm_m2 F 1 2 j 3 = sm_m3 F 0 j 3 + F 0 j * sm_m2 F 1 2 0 3 - F 0 3 * sm_m2 F 1 2 0 j := by unfold sm_m2 sm_m3; grind
    rw [e]; exact sm_n2 (sm_n3 (p4 j h1 h2) (sm_nmul (rj j h1 h2) bBc)) (sm_nmul p1 (bB j h1 h2))
  have bT : (sm_m3 F 1 2 3).natAbs ≤ T' := by
    refine sm_cn hP h0 (b := (P - 1) * T + (P - 1) * T + X * 2916) ?_ (by omega)
    have e : F 0 0 * sm_m3 F 1 2 3 = F 0 1 * sm_m3 F 0 2 3 - F 0 2 * sm_m3 F 0 1 3 + F 0 3 * sm_m3 F 0 1 2 := by unfold sm_m3; grind
    rw [e]; exact sm_n3 (sm_n2 (sm_nmul r1 (p4 2 (by omega) (by omega))) (sm_nmul r2 (p4 1 (by omega) (by omega)))) (sm_nmul p1 p5)
  refine ⟨hX, sm_all2 fun i j k l hij hj hkl hl => ?_, ?_, ?_, p5⟩
  · rcases sm_pair hij hj with ⟨rfl, rfl⟩ | ⟨rfl, rfl⟩ | ⟨rfl, rfl⟩ <;> rcases sm_pair hkl hl with ⟨rfl, rfl⟩ | ⟨rfl, rfl⟩ | ⟨rfl, rfl⟩
    · exact Nat.le_trans (p2 1 1 (by omega) (by omega) (by omega) (by omega)) i3
    · exact Nat.le_trans (p2 1 2 (by omega) (by omega) (by omega) (by omega)) i3
    · exact Nat.le_trans (bA 1 (by omega) (by omega)) i4
    · exact Nat.le_trans (p2 2 1 (by omega) (by omega) (by omega) (by omega)) i3
    · exact Nat.le_trans (p2 2 2 (by omega) (by omega) (by omega) (by omega)) i3
    · exact Nat.le_trans (bA 2 (by omega) (by omega)) i4
    · exact Nat.le_trans (bB 1 (by omega) (by omega)) i4
    · exact Nat.le_trans (bB 2 (by omega) (by omega)) i4
    · exact bE
  · have hb : ∀ i j k, i < j → j < 3 → k < 3 → (sm_m2 F i j k 3).natAbs ≤ C' := by
      intro i j k hij hj hk
      rcases sm_pair hij hj with ⟨rfl, rfl⟩ | ⟨rfl, rfl⟩ | ⟨rfl, rfl⟩ <;> rcases sm_k3 hk with rfl | rfl | rfl
      · exact Nat.le_trans (p3 1 (by omega) (by omega)) i6
      · exact bAc 1 1 (by omega) (by omega) (by omega) (by omega)
      · exact bAc 1 2 (by omega) (by omega) (by omega) (by omega)
      · exact Nat.le_trans (p3 2 (by omega) (by omega)) i6
      · exact bAc 2 1 (by omega) (by omega) (by omega) (by omega)
      · exact bAc 2 2 (by omega) (by omega) (by omega) (by omega)
      · exact Nat.le_trans bBc i7
      · exact bEc 1 (by omega) (by omega)
      · exact bEc 2 (by omega) (by omega)
    intro i j k hi hj hk
    rcases Nat.lt_trichotomy i j with z | z | z
    · exact hb i j k z hj hk
    · subst z; have : sm_m2 F i i k 3 = 0 := by unfold sm_m2; grind
      rw [this]; exact Nat.zero_le _
    · have e : sm_m2 F i j k 3 = - sm_m2 F j i k 3 := by unfold sm_m2; grind
      rw [e, Int.natAbs_neg]; exact hb j i k z hi hk
  · have hb : ∀ i j, i < j → j < 3 → (sm_m3 F i j 3).natAbs ≤ T' := by
      intro i j hij hj
      rcases sm_pair hij hj with ⟨rfl, rfl⟩ | ⟨rfl, rfl⟩ | ⟨rfl, rfl⟩
      · exact Nat.le_trans (p4 1 (by omega) (by omega)) i10
      · exact Nat.le_trans (p4 2 (by omega) (by omega)) i10
      · exact bT
    intro i j hi hj
    rcases Nat.lt_trichotomy i j with z | z | z
    · exact hb i j z hj
    · subst z; have : sm_m3 F i i 3 = 0 := by unfold sm_m3; grind
      rw [this]; exact Nat.zero_le _
    · have e : sm_m3 F i j 3 = - sm_m3 F j i 3 := by unfold sm_m3; grind
      rw [e, Int.natAbs_neg]; exact hb j i z hi
/-- the right side after a round -/
theorem sm_PB_X {F : Nat → Nat → Int} {P X N C T X' : Nat} (hP : (F 0 0).natAbs = P) (h0 : 0 < P) (hn : sm_Nrm F) (h : sm_PB F X N C T)
    (i1 : X ≤ X') (i2 : C + X * (P - 1) ≤ P * X') : ∀ i, i < 3 → (F i 3).natAbs ≤ X' := by
  have hb : ∀ i, 1 ≤ i → i < 3 → (F i 3).natAbs ≤ X' := by
    intro i h1 h2
    refine sm_cn hP h0 (b := C + X * (P - 1)) ?_ i2
    have e : F 0 0 * F i 3 = sm_m2 F 0 i 0 3 + F 0 3 * F i 0 := by unfold sm_m2; grind
    rw [e]; exact sm_n3 (h.2.2.1 i h1 h2) (sm_nmul h.1 (by have := (hn i h1 h2).2; omega))
  intro i hi
  rcases sm_k3 hi with rfl | rfl | rfl
  · exact Nat.le_trans h.1 i1
  · exact hb 1 (by omega) (by omega)
  · exact hb 2 (by omega) (by omega)
/-- the numbers left after a round -/
theorem sm_PB_m {F : Nat → Nat → Int} {P X N C T M : Nat} (hP : (F 0 0).natAbs = P) (h0 : 0 < P) (hn : sm_Nrm F) (h : sm_PB F X N C T)
    (i1 : N + (P - 1) * (P - 1) ≤ P * M) {i j : Nat} (h1 : 1 ≤ i) (h2 : i < 3) (h3 : 1 ≤ j) (h4 : j < 3) : (F i j).natAbs ≤ M := by
  refine sm_cn hP h0 (b := N + (P - 1) * (P - 1)) ?_ i1
  have e : F 0 0 * F i j = sm_m2 F 0 i 0 j + F 0 j * F i 0 := by unfold sm_m2; grind
  rw [e]; exact sm_n3 (h.2.1 i j h1 h2 h3 h4) (sm_nmul (by have := (hn j h3 h4).1; omega) (by have := (hn i h1 h2).2; omega))
end
section
/-! the rounds at the first place -/
def sm_off (q : Nat) (F : Nat → Nat → Int) : Prop := ∃ j, 1 ≤ j ∧ j < 3 ∧ ((F 0 j).natAbs = q ∨ (F j 0).natAbs = q)
def sm_row (q : Nat) (F : Nat → Nat → Int) : Prop := F 1 0 = 0 ∧ (((F 1 1).natAbs = q ∧ F 1 2 = 0) ∨ (F 1 1 = 0 ∧ (F 1 2).natAbs = q))
def sm_ent (M : Nat) (F : Nat → Nat → Int) : Prop := ∀ r c, r < 3 → c < 3 → (F r c).natAbs ≤ M
def sm_k0 (F : Nat → Nat → Int) : Prop := sm_nine F ∧ F 0 0 ≠ 0 ∧ ∀ r c, r < 3 → c < 3 → F r c ≠ 0 → (F 0 0).natAbs ≤ (F r c).natAbs
def sm_kk (P X N C T : Nat) (F : Nat → Nat → Int) : Prop := (F 0 0).natAbs = P ∧ sm_AM F X N C T ∧ sm_ent 6000 F
def sm_Q0 (F : Nat → Nat → Int) : Prop :=
  sm_k0 F ∨ (sm_kk 4 27 907 1836 20412 F ∧ (sm_off 5 F ∨ sm_row 5 F)) ∨ (sm_kk 3 36 993 2445 30618 F ∧ (sm_off 4 F ∨ sm_row 4 F)) ∨
  sm_kk 3 27 907 1836 20412 F ∨ (sm_kk 3 480 2771 16356 50301 F ∧ sm_off 4 F) ∨ sm_kk 2 630 2771 19326 53460 F ∨
  (sm_kk 2 1038 2738 266166 648324 F ∧ sm_off 3 F) ∨ sm_kk 1 133602 5899 14297345 15060654 F
def sm_aft (P X N C T : Nat) (G : Nat → Nat → Int) : Prop := (G 0 0).natAbs = P ∧ sm_Nrm G ∧ sm_PB G X N C T
def sm_nz (G : Nat → Nat → Int) : Prop := ∃ j, 1 ≤ j ∧ j < 3 ∧ (G 0 j ≠ 0 ∨ G j 0 ≠ 0)
def sm_nzr (G : Nat → Nat → Int) : Prop := ∃ j, 1 ≤ j ∧ j < 3 ∧ G 0 j ≠ 0
theorem sm_nzr_nz {G : Nat → Nat → Int} (h : sm_nzr G) : sm_nz G := by obtain ⟨j, a, b, c⟩ := h; exact ⟨j, a, b, Or.inl c⟩
theorem sm_zz00 (row col : Nat) (G : Nat → Nat → Int) : sm_zz 0 row col G 0 0 = G row col := by
  have e : ∀ a, sm_sg a 0 0 = a := fun a => by unfold sm_sg; split <;> simp_all
  show G (sm_sg row 0 0) (sm_sg col 0 0) = G row col
  rw [e, e]
theorem sm_kk_le {P X N C T X' N' C' T' : Nat} {F : Nat → Nat → Int} (h : sm_kk P X N C T F) (h1 : X ≤ X') (h2 : N ≤ N') (h3 : C ≤ C') (h4 : T ≤ T') : sm_kk P X' N' C' T' F := by
  obtain ⟨a, ⟨b1, b2, b3, b4, b5⟩, c⟩ := h
  exact ⟨a, ⟨fun i hi => Nat.le_trans (b1 i hi) h1, fun i j k l p q r s => Nat.le_trans (b2 i j k l p q r s) h2, fun i j k p q r => Nat.le_trans (b3 i j k p q r) h3, fun i j p q => Nat.le_trans (b4 i j p q) h4, b5⟩, c⟩
theorem sm_PB_le {X N C T X' N' C' T' : Nat} {F : Nat → Nat → Int} (h : sm_PB F X N C T) (h1 : X ≤ X') (h2 : N ≤ N') (h3 : C ≤ C') (h4 : T ≤ T') : sm_PB F X' N' C' T' := by
  obtain ⟨b1, b2, b3, b4, b5⟩ := h
  exact ⟨Nat.le_trans b1 h1, fun i j p q r s => Nat.le_trans (b2 i j p q r s) h2, fun i p q => Nat.le_trans (b3 i p q) h3, fun i p q => Nat.le_trans (b4 i p q) h4, b5⟩
theorem sm_aft_ent {P X N C T : Nat} {G : Nat → Nat → Int} (h : sm_aft P X N C T G) (h0 : 0 < P) (h9 : P ≤ 9) (hN : N ≤ 5899) : sm_ent 6000 G := by
  obtain ⟨hP, hn, hb⟩ := h
  intro r c hr hc
  by_cases r0 : r = 0
  · subst r0
    by_cases c0 : c = 0
    · subst c0; omega
    · have := (hn c (by omega) hc).1; omega
  · by_cases c0 : c = 0
    · subst c0; have := (hn r (by omega) hr).2; omega
    · refine sm_PB_m hP h0 hn hb ?_ (by omega) hr (by omega) hc
      have h1 : (P - 1) * (P - 1) ≤ 8 * 8 := Nat.mul_le_mul (by omega) (by omega)
      have h2 : 1 * 6000 ≤ P * 6000 := Nat.mul_le_mul (by omega) (Nat.le_refl _)
      omega
theorem sm_ent_zz {M row col : Nat} {G : Nat → Nat → Int} (h : sm_ent M G) (hr : row < 3) (hc : col < 3) : sm_ent M (sm_zz 0 row col G) :=
  fun r c h1 h2 => h _ _ (sm_sg_lt hr (by omega) h1) (sm_sg_lt hc (by omega) h2)
/-- a round's end, then the smallest brought to the pivot's place -/
theorem sm_aft_kk {P X N C T : Nat} {G : Nat → Nat → Int} (h : sm_aft P X N C T G) (X' N' C' T' Bm Bc : Nat) (hX : ∀ i, i < 3 → (G i 3).natAbs ≤ X')
    (h0 : 0 < P) (h9 : P ≤ 9) (hN : N ≤ 5899)
    (i1 : 2 * ((P - 1) * N) ≤ P * Bm) (i2 : 2 * ((P - 1) * C) ≤ P * Bc) (i3 : N ≤ N') (i4 : Bm ≤ N')
    (i5 : 2916 + 2 * ((P - 1) * Bm) ≤ P * N') (i6 : C ≤ C') (i7 : Bc ≤ C') (i8 : (P - 1) * C + X * N ≤ P * C') (i9 : T + (P - 1) * Bc + X * Bm ≤ P * C')
    (i10 : T ≤ T') (i11 : 2 * ((P - 1) * T) + X * 2916 ≤ P * T') {row col : Nat} (hb : sm_brg 0 G row col) {P' : Nat} (hP' : (G row col).natAbs = P') : sm_kk P' X' N' C' T' (sm_zz 0 row col G) := by
  obtain ⟨-, hr, -, hc, -, -⟩ := hb
  refine ⟨by rw [sm_zz00]; exact hP', sm_AM_zz ?_ (by omega) hr hc, sm_ent_zz (sm_aft_ent h h0 h9 hN) hr hc⟩
  exact sm_PB_AM h.1 h0 h.2.1 h.2.2 hX i1 i2 i3 i4 i5 i6 i7 i8 i9 i10 i11
/-- the next pivot is smaller than any number other than 0 beside the pivot -/
theorem sm_brg_le {G : Nat → Nat → Int} {row col : Nat} (hb : sm_brg 0 G row col) {r c : Nat} (hr : r < 3) (hc : c < 3) (hz : G r c ≠ 0) : (G row col).natAbs ≤ (G r c).natAbs :=
  (hb.2.2.2.2.2 r c (by omega) hr (by omega) hc hz).1
theorem sm_brg_pos {G : Nat → Nat → Int} {row col : Nat} (hb : sm_brg 0 G row col) : 1 ≤ (G row col).natAbs := by
  have := hb.2.2.2.2.1; omega
theorem sm_brg_lt {G : Nat → Nat → Int} {row col : Nat} (hb : sm_brg 0 G row col) (hn : sm_Nrm G) (hz : sm_nz G) : (G row col).natAbs < (G 0 0).natAbs := by
  obtain ⟨j, h1, h2, h | h⟩ := hz
  · exact Nat.lt_of_le_of_lt (sm_brg_le hb (by omega) h2 h) (hn j h1 h2).1
  · exact Nat.lt_of_le_of_lt (sm_brg_le hb h2 (by omega) h) (hn j h1 h2).2
/-- the pivot falls by one alone -/
theorem sm_tie {G : Nat → Nat → Int} {row col P : Nat} (hb : sm_brg 0 G row col) (hn : sm_Nrm G) (hz : sm_nz G) (hP : (G 0 0).natAbs = P) (hP' : (G row col).natAbs + 1 = P) :
    sm_off P (sm_zz 0 row col G) ∨ (row = 1 ∧ G 0 1 = 0 ∧ G 0 2 = 0 ∧ 1 ≤ col ∧ col < 3 ∧ sm_row P (sm_zz 0 row col G)) := by
  obtain ⟨-, hr, -, hc, hne, hall⟩ := hb
  have sg0 : ∀ a, sm_sg a 0 a = 0 := fun a => by unfold sm_sg; rw [if_pos rfl]
  have sg1 : ∀ a, sm_sg a 0 0 = a := fun a => by unfold sm_sg; split <;> simp_all
  by_cases r0 : row = 0
  · subst r0
    have c0 : col ≠ 0 := fun z => by subst z; omega
    refine Or.inl ⟨col, by omega, hc, Or.inl ?_⟩
    show (G (sm_sg 0 0 0) (sm_sg col 0 col)).natAbs = P
    rw [sg0, sg0]; exact hP
  · by_cases c0 : col = 0
    · subst c0
      refine Or.inl ⟨row, by omega, hr, Or.inr ?_⟩
      show (G (sm_sg row 0 row) (sm_sg 0 0 0)).natAbs = P
      rw [sg0, sg0]; exact hP
    · have z0 : ∀ j, 1 ≤ j → j < 3 → G 0 j = 0 := fun j h1 h2 => by
        by_cases z : G 0 j = 0
        · exact z
        · have := (hall 0 j (by omega) (by omega) (by omega) h2 z).2 (Or.inl (by omega))
          have := (hn j h1 h2).1
          omega
      have zr : G row 0 = 0 := by
        by_cases z : G row 0 = 0
        · exact z
        · have := (hall row 0 (by omega) hr (by omega) (by omega) z).2 (Or.inr ⟨rfl, by omega⟩)
          have := (hn row (by omega) hr).2
          omega
      have r1 : row = 1 := by
        have : row = 1 ∨ row = 2 := by omega
        rcases this with z | z
        · exact z
        · subst z
          have z1 : G 1 0 = 0 := by
            by_cases z : G 1 0 = 0
            · exact z
            · have := (hall 1 0 (by omega) (by omega) (by omega) (by omega) z).2 (Or.inl (by omega))
              have := (hn 1 (by omega) (by omega)).2
              omega
          obtain ⟨j, h1, h2, h | h⟩ := hz
          · exact absurd (z0 j h1 h2) h
          · have : j = 1 ∨ j = 2 := by omega
            rcases this with rfl | rfl
            · exact absurd z1 h
            · exact absurd zr h
      subst r1
      refine Or.inr ⟨rfl, z0 1 (by omega) (by omega), z0 2 (by omega) (by omega), by omega, hc, ?_⟩
      have e1 : sm_sg 1 0 1 = 0 := rfl
      have : col = 1 ∨ col = 2 := by omega
      rcases this with rfl | rfl
      · refine ⟨?_, Or.inl ⟨?_, ?_⟩⟩
        · show G 0 1 = 0; exact z0 1 (by omega) (by omega)
        · show (G 0 0).natAbs = P; exact hP
        · show G 0 2 = 0; exact z0 2 (by omega) (by omega)
      · refine ⟨?_, Or.inr ⟨?_, ?_⟩⟩
        · show G 0 2 = 0; exact z0 2 (by omega) (by omega)
        · show G 0 1 = 0; exact z0 1 (by omega) (by omega)
        · show (G 0 0).natAbs = P; exact hP
/-! the round itself -/
theorem sm_rd_nz {F : Nat → Nat → Int} (h : ¬ sm_clean 0 (sm_rd 0 F)) : sm_nz (sm_rd 0 F) := by
  refine Classical.byContradiction fun z => h fun i h1 h2 => ?_
  refine ⟨Classical.byContradiction fun q => z ⟨i, by omega, h2, Or.inr q⟩, Classical.byContradiction fun q => z ⟨i, by omega, h2, Or.inl q⟩⟩
theorem sm_rd_aft {F : Nat → Nat → Int} {P X N C T : Nat} (hP : (F 0 0).natAbs = P) (h0 : 0 < P) (h : sm_PB F X N C T) : sm_aft P X N C T (sm_rd 0 F) :=
  ⟨hP, sm_Nrm_rd (by omega), sm_PB_rd h⟩
theorem sm_f00 {F : Nat → Nat → Int} (hc : sm_clean 0 F) {i : Nat} (h1 : 1 ≤ i) (h2 : i < 3) : sm_add 0 i F 0 0 = F 0 0 := by
  show F 0 0 + 1 * F i 0 = F 0 0
  rw [(hc i (by omega) h2).1]; omega
theorem sm_f0j {F : Nat → Nat → Int} (hc : sm_clean 0 F) {i : Nat} (h1 : 1 ≤ i) (h2 : i < 3) {j : Nat} (k1 : 1 ≤ j) (k2 : j < 3) : sm_add 0 i F 0 j = (F i j).tmod (F 0 0) := by
  have e : sm_add 0 i F 0 j = (F 0 j + 1 * F i j) + -((F 0 j + 1 * F i j).tdiv (F 0 0 + 1 * F i 0)) * (F 0 0 + 1 * F i 0) := by
    have : j = 1 ∨ j = 2 := by omega
    rcases this with rfl | rfl <;> rfl
  rw [e, sm_tm, (hc i (by omega) h2).1, (hc j (by omega) k2).2]
  congr 1 <;> omega
theorem sm_fr0 {F : Nat → Nat → Int} (hc : sm_clean 0 F) {i : Nat} (h1 : 1 ≤ i) {r : Nat} (k1 : 1 ≤ r) (k2 : r < 3) : sm_add 0 i F r 0 = 0 := by
  have e : sm_add 0 i F r 0 = F r 0 := by
    have : r = 1 ∨ r = 2 := by omega
    rcases this with rfl | rfl <;> rfl
  rw [e]; exact (hc r (by omega) k2).1
theorem sm_add_Nrm {F : Nat → Nat → Int} (hp : F 0 0 ≠ 0) (hc : sm_clean 0 F) {i : Nat} (h1 : 1 ≤ i) (h2 : i < 3) : sm_Nrm (sm_add 0 i F) := by
  intro j k1 k2
  rw [sm_f0j hc h1 h2 k1 k2, sm_fr0 hc h1 k1 k2, sm_f00 hc h1 h2]
  exact ⟨sm_tmlt _ hp, by omega⟩
theorem sm_add_PB {F : Nat → Nat → Int} {X N C T X3 : Nat} (hc : sm_clean 0 F) (h : sm_PB F X N C T) {i : Nat} (h1 : 1 ≤ i) (h2 : i < 3) (h3 : (F 0 3).natAbs + (F i 3).natAbs ≤ X3) : sm_PB (sm_add 0 i F) X3 N C T := by
  rw [sm_add0 i h1 F]
  refine sm_PB_aC (sm_PB_aC ?_ (by omega) (by omega) _) (by omega) (by omega) _
  have z : ∀ r c, 1 ≤ r → r < 3 → sm_m2 F i r 0 c = 0 := fun r c k1 k2 => by
    unfold sm_m2; rw [(hc i (by omega) h2).1, (hc r (by omega) k2).1]; grind
  refine ⟨?_, fun r j hi hi' hj hj' => ?_, fun r hi hi' => ?_, fun j hj hj' => ?_, ?_⟩
  · show (F 0 3 + 1 * F i 3).natAbs ≤ X3
    omega
  · rw [sm_m2_aR, if_pos rfl, if_neg (by omega), z r j hi hi', Int.mul_zero, Int.add_zero, Int.add_zero]; exact h.2.1 r j hi hi' hj hj'
  · rw [sm_m2_aR, if_pos rfl, if_neg (by omega), z r 3 hi hi', Int.mul_zero, Int.add_zero, Int.add_zero]; exact h.2.2.1 r hi hi'
  · rw [sm_m3_aR (by omega) h2 (by omega)]; exact h.2.2.2.1 j hj hj'
  · rw [sm_m3_aR (by omega) h2 (by omega)]; exact h.2.2.2.2
theorem sm_add_nz {F : Nat → Nat → Int} (hc : sm_clean 0 F) {i : Nat} (hf : sm_fst 0 i F) : sm_nzr (sm_add 0 i F) := by
  obtain ⟨h1, h2, h3, -⟩ := hf
  refine Classical.byContradiction fun z => h3 fun c k1 k2 => ?_
  refine Int.dvd_of_tmod_eq_zero (Classical.byContradiction fun q => z ⟨c, by omega, k2, ?_⟩)
  rw [sm_f0j hc (by omega) h2 (by omega) k2]; exact q
/-- where column and row are cleared, the right side is small -/
theorem sm_cl_r {F : Nat → Nat → Int} {P X N C T Y : Nat} (hP : (F 0 0).natAbs = P) (h0 : 0 < P) (hc : sm_clean 0 F) (h : sm_PB F X N C T) {i : Nat} (h1 : 1 ≤ i) (h2 : i < 3) (hY : C ≤ P * Y) : (F i 3).natAbs ≤ Y := by
  refine sm_cn hP h0 (b := C) ?_ hY
  have e : F 0 0 * F i 3 = sm_m2 F 0 i 0 3 := by unfold sm_m2; rw [(hc i (by omega) h2).1]; grind
  rw [e]; exact h.2.2.1 i h1 h2
theorem sm_add_aft {F : Nat → Nat → Int} {P X N C T X3 : Nat} (hP : (F 0 0).natAbs = P) (h0 : 0 < P) (hc : sm_clean 0 F) (h : sm_PB F X N C T) {i : Nat} (h1 : 1 ≤ i) (h2 : i < 3)
    (h3 : (F 0 3).natAbs + (F i 3).natAbs ≤ X3) : sm_aft P X3 N C T (sm_add 0 i F) :=
  ⟨by rw [sm_f00 hc h1 h2]; exact hP, sm_add_Nrm (by omega) hc h1 h2, sm_add_PB hc h h1 h2 h3⟩
/-- a neighbour of the pivot that is greater by one: the next pivot is 1 -/
theorem sm_off_1 {F : Nat → Nat → Int} {P : Nat} (hP : (F 0 0).natAbs = P) (h2 : 2 ≤ P) (h : sm_off (P + 1) F) :
    ¬ sm_clean 0 (sm_rd 0 F) ∧ ∀ row col, sm_brg 0 (sm_rd 0 F) row col → (sm_rd 0 F row col).natAbs = 1 := by
  have hm : (P + 1) % P = 1 := by rw [Nat.add_mod_left]; exact Nat.mod_eq_of_lt h2
  obtain ⟨j, h1, h3, h | h⟩ := h
  · have e : (sm_rd 0 F 0 j).natAbs = 1 := by rw [sm_e0j F h1 h3, Int.natAbs_tmod, h, hP, hm]
    refine ⟨fun z => ?_, fun row col hb => ?_⟩
    · have := (z j (by omega) h3).2; omega
    · have := sm_brg_le hb (r := 0) (c := j) (by omega) h3 (by omega)
      have := sm_brg_pos hb; omega
  · have e : (sm_rd 0 F j 0).natAbs = 1 := by rw [sm_ei0 F h1 h3, Int.natAbs_tmod, h, hP, hm]
    refine ⟨fun z => ?_, fun row col hb => ?_⟩
    · have := (z j (by omega) h3).1; omega
    · have := sm_brg_le hb (r := j) (c := 0) h3 (by omega) (by omega)
      have := sm_brg_pos hb; omega
theorem sm_row_rd {F : Nat → Nat → Int} {q : Nat} (h : sm_row q F) : sm_row q (sm_rd 0 F) := by
  obtain ⟨h1, h2⟩ := h
  have e0 : sm_rd 0 F 1 0 = 0 := by rw [sm_ei0 F (by omega) (by omega), h1]; exact Int.zero_tmod _
  have e1 : ∀ j, 1 ≤ j → j < 3 → sm_rd 0 F 1 j = F 1 j := fun j k1 k2 => by
    rw [sm_eij F (by omega) (by omega) k1 k2, e0, h1, Int.zero_tdiv]; omega
  refine ⟨e0, ?_⟩
  rw [e1 1 (by omega) (by omega), e1 2 (by omega) (by omega)]; exact h2
/-- row 1 holds one number, greater by one than the pivot: if it is added, the next pivot is 1 -/
theorem sm_row_add {F : Nat → Nat → Int} {P : Nat} (hP : (F 0 0).natAbs = P) (h2 : 2 ≤ P) (hc : sm_clean 0 F) (h : sm_row (P + 1) F) {i : Nat} (hf : sm_fst 0 i F) {row col : Nat} (hb : sm_brg 0 (sm_add 0 i F) row col) :
    (sm_add 0 i F row col).natAbs = 1 := by
  have hm : (P + 1) % P = 1 := by rw [Nat.add_mod_left]; exact Nat.mod_eq_of_lt h2
  have hex : ∃ c, 1 ≤ c ∧ c < 3 ∧ (F 1 c).natAbs = P + 1 := by
    rcases h.2 with q | q
    · exact ⟨1, by omega, by omega, q.1⟩
    · exact ⟨2, by omega, by omega, q.2⟩
  obtain ⟨c, c1, c2, ec⟩ := hex
  have hnd : ¬ sm_rdiv 0 1 F := fun z => by
    have := Int.natAbs_dvd_natAbs.mpr (z c (by omega) c2)
    rw [hP, ec] at this
    have := Nat.mod_eq_zero_of_dvd this
    omega
  have i1 : i = 1 := by
    have := hf.1
    rcases Nat.lt_or_ge 1 i with z | z
    · exact absurd (hf.2.2.2 1 (by omega) z) hnd
    · omega
  subst i1
  have e : (sm_add 0 1 F 0 c).natAbs = 1 := by rw [sm_f0j hc (by omega) (by omega) c1 c2, Int.natAbs_tmod, ec, hP, hm]
  have := sm_brg_le hb (r := 0) (c := c) (by omega) c2 (by omega)
  have := sm_brg_pos hb; omega
end
section
/-! the first round: all numbers within 9 -/
theorem sm_k0_aft {F : Nat → Nat → Int} (h : sm_k0 F) {P N : Nat} (hP : (F 0 0).natAbs = P) (hN : 9 * P + 81 = N) : sm_aft P 9 N N 2916 (sm_rd 0 F) := by
  obtain ⟨h9, hne, -⟩ := h
  have hb : ∀ i j, 1 ≤ i → i < 3 → 1 ≤ j → j < 4 → (sm_m2 F 0 i 0 j).natAbs ≤ N := by
    intro i j _ hi _ hj
    unfold sm_m2
    have a1 : (F 0 0 * F i j).natAbs ≤ P * 9 := sm_nmul (Nat.le_of_eq hP) (h9 i j hi hj)
    have a2 : (F 0 j * F i 0).natAbs ≤ 9 * 9 := sm_nmul (h9 0 j (by omega) hj) (h9 i 0 hi (by omega))
    have := sm_n2 a1 a2
    omega
  exact sm_rd_aft hP (by omega) ⟨h9 0 3 (by omega) (by omega), fun i j a b c d => hb i j a b c (by omega), fun i a b => hb i 3 a b (by omega) (by omega), fun j _ hj => sm_m3_9 h9 (by omega) (by omega) (by omega), sm_m3_9 h9 (by omega) (by omega) (by omega)⟩
theorem sm_k0_X {F : Nat → Nat → Int} (h : sm_k0 F) {P Y : Nat} (hP : (F 0 0).natAbs = P) {i : Nat} (hi : i < 3) (hY : 9 + 9 / P * 9 = Y := by omega) : (sm_rd 0 F i 3).natAbs ≤ Y := by
  obtain ⟨h9, hne, -⟩ := h
  by_cases z : i = 0
  · subst z; have := h9 0 3 (by omega) (by omega); rw [sm_e03]; omega
  · rw [sm_ei3 F (by omega) hi]
    have a1 : (-((F i 0).tdiv (F 0 0))).natAbs ≤ 9 / P := by
      rw [Int.natAbs_neg, Int.natAbs_tdiv, hP]; exact Nat.div_le_div_right (h9 i 0 hi (by omega))
    have a2 := sm_nmul a1 (h9 0 3 (by omega) (by omega))
    have := sm_n3 (h9 i 3 hi (by omega)) a2
    omega
theorem sm_k0_X3 {F : Nat → Nat → Int} (h : sm_k0 F) {P Y : Nat} (hP : (F 0 0).natAbs = P) {i : Nat} (hi : i < 3) (hY : 18 + 9 / P * 9 = Y := by omega) : (sm_rd 0 F 0 3).natAbs + (sm_rd 0 F i 3).natAbs ≤ Y := by
  have a1 := sm_k0_X h hP hi rfl
  have a2 := h.1 0 3 (by omega) (by omega)
  rw [sm_e03]; omega
theorem sm_fr3 {F : Nat → Nat → Int} {i : Nat} (h1 : 1 ≤ i) {r : Nat} (k1 : 1 ≤ r) (k2 : r < 3) : sm_add 0 i F r 3 = F r 3 := by
  have : r = 1 ∨ r = 2 := by omega
  rcases this with rfl | rfl <;> rfl
theorem sm_k0_Xa {F : Nat → Nat → Int} (h : sm_k0 F) {P Y : Nat} (hP : (F 0 0).natAbs = P) (hc : sm_clean 0 (sm_rd 0 F)) {i : Nat} (h1 : 1 ≤ i) (hi : i < 3) {r : Nat} (hr : r < 3) (hY : 18 + 9 / P * 9 = Y := by omega) : (sm_add 0 i (sm_rd 0 F) r 3).natAbs ≤ Y := by
  by_cases z : r = 0
  · subst z
    have := sm_k0_X3 h hP hi hY
    show (sm_rd 0 F 0 3 + 1 * sm_rd 0 F i 3).natAbs ≤ Y
    omega
  · rw [sm_fr3 h1 (by omega) hr]
    have := sm_k0_X h hP hr rfl
    omega
/-- a first pivot of 5 or more: the next is what is left of 9 at most -/
theorem sm_m5 {x P : Nat} (h5 : 5 ≤ P) (h1 : P ≤ x) (h9 : x ≤ 9) : x % P = x - P := by
  rw [Nat.mod_eq_sub_mod h1, Nat.mod_eq_of_lt (by omega)]
theorem sm_k0_n {F : Nat → Nat → Int} (h : sm_k0 F) {P : Nat} (hP : (F 0 0).natAbs = P) (h5 : 5 ≤ P) (hc : ¬ sm_clean 0 (sm_rd 0 F)) {row col : Nat} (hb : sm_brg 0 (sm_rd 0 F) row col) :
    (sm_rd 0 F row col).natAbs ≤ 9 - P := by
  obtain ⟨h9, hne, hmin⟩ := h
  obtain ⟨j, h1, h2, z | z⟩ := sm_rd_nz hc
  · have := sm_brg_le hb (r := 0) (c := j) (by omega) h2 z
    rw [sm_e0j F h1 h2, Int.natAbs_tmod, hP] at this
    have h0 : F 0 j ≠ 0 := fun q => z (by rw [sm_e0j F h1 h2, q]; exact Int.zero_tmod _)
    have hm := hmin 0 j (by omega) h2 h0
    have hn := h9 0 j (by omega) (by omega)
    rw [sm_m5 h5 (by omega) hn] at this
    omega
  · have := sm_brg_le hb (r := j) (c := 0) h2 (by omega) z
    rw [sm_ei0 F h1 h2, Int.natAbs_tmod, hP] at this
    have h0 : F j 0 ≠ 0 := fun q => z (by rw [sm_ei0 F h1 h2, q]; exact Int.zero_tmod _)
    have hm := hmin j 0 h2 (by omega) h0
    have hn := h9 j 0 h2 (by omega)
    rw [sm_m5 h5 (by omega) hn] at this
    omega
/-- the multiple of the pivot that a cleared row holds -/
theorem sm_pm {x p : Int} {P : Nat} (hP : p.natAbs = P) (h5 : 5 ≤ P) (h9 : x.natAbs ≤ 9) (hd : x.tmod p = 0) : x = 0 ∨ x = p ∨ x = -p := by
  have h1 := congrArg Int.natAbs hd
  rw [Int.natAbs_tmod, hP] at h1
  by_cases z : x = 0
  · exact Or.inl z
  · by_cases q : x.natAbs < P
    · rw [Nat.mod_eq_of_lt q] at h1; exact absurd h1 (by omega)
    · rw [sm_m5 h5 (by omega) h9] at h1
      have : x.natAbs = P := by have : x.natAbs - P = 0 := h1; omega
      omega
theorem sm_md {x e p : Int} {P : Nat} (hP : p.natAbs = P) (h5 : 5 ≤ P) (h9 : x.natAbs ≤ 9) (hx : x ≠ 0 → P ≤ x.natAbs) (he : e = 0 ∨ e = p ∨ e = -p) : ((x + e).tmod p).natAbs ≤ 9 - P := by
  rw [Int.natAbs_tmod, hP]
  have hx2 : x = 0 ∨ P ≤ x.natAbs := by by_cases z : x = 0; exact Or.inl z; exact Or.inr (hx z)
  have h9' : P = 5 ∨ P = 6 ∨ P = 7 ∨ P = 8 ∨ P ≥ 9 := by omega
  rcases h9' with r | r | r | r | r
  · subst r; omega
  · subst r; omega
  · subst r; omega
  · subst r; omega
  · have hP9 : x = 0 ∨ x.natAbs = P := by omega
    have : (x + e).natAbs = 0 ∨ (x + e).natAbs = P ∨ (x + e).natAbs = 2 * P := by omega
    have : (x + e).natAbs % P = 0 := by
      rcases this with q | q | q
      · rw [q]; exact Nat.zero_mod _
      · rw [q]; exact Nat.mod_self _
      · rw [q]; exact Nat.mul_mod_left _ _
    omega
theorem sm_k0_a {F : Nat → Nat → Int} (h : sm_k0 F) {P : Nat} (hP : (F 0 0).natAbs = P) (h5 : 5 ≤ P) (hc : sm_clean 0 (sm_rd 0 F)) {i : Nat} (hf : sm_fst 0 i (sm_rd 0 F)) {row col : Nat} (hb : sm_brg 0 (sm_add 0 i (sm_rd 0 F)) row col) :
    (sm_add 0 i (sm_rd 0 F) row col).natAbs ≤ 9 - P := by
  have hnz := sm_add_nz hc hf
  obtain ⟨h9, hne, hmin⟩ := h
  have hi := hf.1
  obtain ⟨j, h1, h2, z⟩ := hnz
  have := sm_brg_le hb (r := 0) (c := j) (by omega) h2 z
  refine Nat.le_trans this ?_
  rw [sm_f0j hc (by omega) hf.2.1 h1 h2, sm_e00, sm_eij F (by omega) hf.2.1 h1 h2, (hc i (by omega) hf.2.1).1, Int.mul_zero, Int.add_zero]
  have d1 : (F i 0).tmod (F 0 0) = 0 := by have := (hc i (by omega) hf.2.1).1; rwa [sm_ei0 F (by omega) hf.2.1] at this
  have d2 : (F 0 j).tmod (F 0 0) = 0 := by have := (hc j (by omega) h2).2; rwa [sm_e0j F h1 h2] at this
  refine sm_md hP h5 (h9 i j hf.2.1 (by omega)) (fun q => by have := hmin i j hf.2.1 h2 q; omega) ?_
  have q1 := sm_pm hP h5 (h9 i 0 hf.2.1 (by omega)) d1
  have q2 := sm_pm hP h5 (h9 0 j (by omega) (by omega)) d2
  have t1 : (F 0 0).tdiv (F 0 0) = 1 := Int.tdiv_self hne
  have t2 : (-F 0 0).tdiv (F 0 0) = -1 := by rw [Int.neg_tdiv, t1]
  rcases q1 with q1 | q1 | q1
  · rw [q1, Int.zero_tdiv]; exact Or.inl (by omega)
  · rw [q1, t1]; rcases q2 with q2 | q2 | q2 <;> rw [q2] <;> omega
  · rw [q1, t2]; rcases q2 with q2 | q2 | q2 <;> rw [q2] <;> omega
/-! printed by gen10.py: the bounds after one more round, by the kind of state -/
theorem sm_n4 {F : Nat → Nat → Int} (h : sm_kk 4 27 907 1836 20412 F) {row col : Nat} (hb : sm_brg 0 (sm_rd 0 F) row col) : sm_kk (sm_rd 0 F row col).natAbs 480 2771 16356 50301 (sm_zz 0 row col (sm_rd 0 F)) := by
  have q := sm_rd_aft h.1 (by omega) (sm_AM_PB h.2.1)
  exact sm_aft_kk q 480 2771 16356 50301 1361 2754 (sm_PB_X q.1 (by omega) q.2.1 q.2.2 (by omega) (by omega)) (by omega) (by omega) (by omega) (by omega) (by omega) (by omega) (by omega) (by omega) (by omega) (by omega) (by omega) (by omega) (by omega) (by omega) hb rfl
theorem sm_a4 {F : Nat → Nat → Int} (h : sm_kk 4 27 907 1836 20412 F) (hc : sm_clean 0 (sm_rd 0 F)) {i : Nat} (hf : sm_fst 0 i (sm_rd 0 F)) {row col : Nat} (hb : sm_brg 0 (sm_add 0 i (sm_rd 0 F)) row col) : sm_kk (sm_add 0 i (sm_rd 0 F) row col).natAbs 824 2771 172530 384912 (sm_zz 0 row col (sm_add 0 i (sm_rd 0 F))) := by
  have q0 := sm_rd_aft h.1 (by omega) (sm_AM_PB h.2.1)
  have hi := hf.1
  have z1 := sm_cl_r q0.1 (by omega) hc q0.2.2 (i := i) (by omega) hf.2.1 (Y := 459) (by omega)
  have z0 := q0.2.2.1
  have q := sm_add_aft (X3 := 486) q0.1 (by omega) hc q0.2.2 (i := i) (by omega) hf.2.1 (by omega)
  exact sm_aft_kk q 824 2771 172530 384912 1361 2754 (sm_PB_X q.1 (by omega) q.2.1 q.2.2 (by omega) (by omega)) (by omega) (by omega) (by omega) (by omega) (by omega) (by omega) (by omega) (by omega) (by omega) (by omega) (by omega) (by omega) (by omega) (by omega) hb rfl
theorem sm_n3t {F : Nat → Nat → Int} (h : sm_kk 3 36 993 2445 30618 F) {row col : Nat} (hb : sm_brg 0 (sm_rd 0 F) row col) : sm_kk (sm_rd 0 F row col).natAbs 839 2738 28268 75816 (sm_zz 0 row col (sm_rd 0 F)) := by
  have q := sm_rd_aft h.1 (by omega) (sm_AM_PB h.2.1)
  exact sm_aft_kk q 839 2738 28268 75816 1324 3260 (sm_PB_X q.1 (by omega) q.2.1 q.2.2 (by omega) (by omega)) (by omega) (by omega) (by omega) (by omega) (by omega) (by omega) (by omega) (by omega) (by omega) (by omega) (by omega) (by omega) (by omega) (by omega) hb rfl
theorem sm_a3t {F : Nat → Nat → Int} (h : sm_kk 3 36 993 2445 30618 F) (hc : sm_clean 0 (sm_rd 0 F)) {i : Nat} (hf : sm_fst 0 i (sm_rd 0 F)) {row col : Nat} (hb : sm_brg 0 (sm_add 0 i (sm_rd 0 F)) row col) : sm_kk (sm_add 0 i (sm_rd 0 F) row col).natAbs 1383 2738 387954 867996 (sm_zz 0 row col (sm_add 0 i (sm_rd 0 F))) := by
  have q0 := sm_rd_aft h.1 (by omega) (sm_AM_PB h.2.1)
  have hi := hf.1
  have z1 := sm_cl_r q0.1 (by omega) hc q0.2.2 (i := i) (by omega) hf.2.1 (Y := 815) (by omega)
  have z0 := q0.2.2.1
  have q := sm_add_aft (X3 := 851) q0.1 (by omega) hc q0.2.2 (i := i) (by omega) hf.2.1 (by omega)
  exact sm_aft_kk q 1383 2738 387954 867996 1324 3260 (sm_PB_X q.1 (by omega) q.2.1 q.2.2 (by omega) (by omega)) (by omega) (by omega) (by omega) (by omega) (by omega) (by omega) (by omega) (by omega) (by omega) (by omega) (by omega) (by omega) (by omega) (by omega) hb rfl
theorem sm_n3f {F : Nat → Nat → Int} (h : sm_kk 3 27 907 1836 20412 F) {row col : Nat} (hb : sm_brg 0 (sm_rd 0 F) row col) : sm_kk (sm_rd 0 F row col).natAbs 630 2586 19326 53460 (sm_zz 0 row col (sm_rd 0 F)) := by
  have q := sm_rd_aft h.1 (by omega) (sm_AM_PB h.2.1)
  exact sm_aft_kk q 630 2586 19326 53460 1210 2448 (sm_PB_X q.1 (by omega) q.2.1 q.2.2 (by omega) (by omega)) (by omega) (by omega) (by omega) (by omega) (by omega) (by omega) (by omega) (by omega) (by omega) (by omega) (by omega) (by omega) (by omega) (by omega) hb rfl
theorem sm_a3f {F : Nat → Nat → Int} (h : sm_kk 3 27 907 1836 20412 F) (hc : sm_clean 0 (sm_rd 0 F)) {i : Nat} (hf : sm_fst 0 i (sm_rd 0 F)) {row col : Nat} (hb : sm_brg 0 (sm_add 0 i (sm_rd 0 F)) row col) : sm_kk (sm_add 0 i (sm_rd 0 F) row col).natAbs 1038 2586 266166 648324 (sm_zz 0 row col (sm_add 0 i (sm_rd 0 F))) := by
  have q0 := sm_rd_aft h.1 (by omega) (sm_AM_PB h.2.1)
  have hi := hf.1
  have z1 := sm_cl_r q0.1 (by omega) hc q0.2.2 (i := i) (by omega) hf.2.1 (Y := 612) (by omega)
  have z0 := q0.2.2.1
  have q := sm_add_aft (X3 := 639) q0.1 (by omega) hc q0.2.2 (i := i) (by omega) hf.2.1 (by omega)
  exact sm_aft_kk q 1038 2586 266166 648324 1210 2448 (sm_PB_X q.1 (by omega) q.2.1 q.2.2 (by omega) (by omega)) (by omega) (by omega) (by omega) (by omega) (by omega) (by omega) (by omega) (by omega) (by omega) (by omega) (by omega) (by omega) (by omega) (by omega) hb rfl
theorem sm_n3e {F : Nat → Nat → Int} (h : sm_kk 3 480 2771 16356 50301 F) {row col : Nat} (hb : sm_brg 0 (sm_rd 0 F) row col) : sm_kk (sm_rd 0 F row col).natAbs 5772 5899 622506 533628 (sm_zz 0 row col (sm_rd 0 F)) := by
  have q := sm_rd_aft h.1 (by omega) (sm_AM_PB h.2.1)
  exact sm_aft_kk q 5772 5899 622506 533628 3695 21808 (sm_PB_X q.1 (by omega) q.2.1 q.2.2 (by omega) (by omega)) (by omega) (by omega) (by omega) (by omega) (by omega) (by omega) (by omega) (by omega) (by omega) (by omega) (by omega) (by omega) (by omega) (by omega) hb rfl
theorem sm_n2g {F : Nat → Nat → Int} (h : sm_kk 2 630 2771 19326 53460 F) {row col : Nat} (hb : sm_brg 0 (sm_rd 0 F) row col) : sm_kk (sm_rd 0 F row col).natAbs 9978 4229 909258 972000 (sm_zz 0 row col (sm_rd 0 F)) := by
  have q := sm_rd_aft h.1 (by omega) (sm_AM_PB h.2.1)
  exact sm_aft_kk q 9978 4229 909258 972000 2771 19326 (sm_PB_X q.1 (by omega) q.2.1 q.2.2 (by omega) (by omega)) (by omega) (by omega) (by omega) (by omega) (by omega) (by omega) (by omega) (by omega) (by omega) (by omega) (by omega) (by omega) (by omega) (by omega) hb rfl
theorem sm_a2g {F : Nat → Nat → Int} (h : sm_kk 2 630 2771 19326 53460 F) (hc : sm_clean 0 (sm_rd 0 F)) {i : Nat} (hf : sm_fst 0 i (sm_rd 0 F)) {row col : Nat} (hb : sm_brg 0 (sm_add 0 i (sm_rd 0 F)) row col) : sm_kk (sm_add 0 i (sm_rd 0 F) row col).natAbs 14810 4229 14297345 15060654 (sm_zz 0 row col (sm_add 0 i (sm_rd 0 F))) := by
  have q0 := sm_rd_aft h.1 (by omega) (sm_AM_PB h.2.1)
  have hi := hf.1
  have z1 := sm_cl_r q0.1 (by omega) hc q0.2.2 (i := i) (by omega) hf.2.1 (Y := 9663) (by omega)
  have z0 := q0.2.2.1
  have q := sm_add_aft (X3 := 10293) q0.1 (by omega) hc q0.2.2 (i := i) (by omega) hf.2.1 (by omega)
  exact sm_aft_kk q 14810 4229 14297345 15060654 2771 19326 (sm_PB_X q.1 (by omega) q.2.1 q.2.2 (by omega) (by omega)) (by omega) (by omega) (by omega) (by omega) (by omega) (by omega) (by omega) (by omega) (by omega) (by omega) (by omega) (by omega) (by omega) (by omega) hb rfl
theorem sm_n2e {F : Nat → Nat → Int} (h : sm_kk 2 1038 2738 266166 648324 F) {row col : Nat} (hb : sm_brg 0 (sm_rd 0 F) row col) : sm_kk (sm_rd 0 F row col).natAbs 133602 4196 1878267 2161728 (sm_zz 0 row col (sm_rd 0 F)) := by
  have q := sm_rd_aft h.1 (by omega) (sm_AM_PB h.2.1)
  exact sm_aft_kk q 133602 4196 1878267 2161728 2738 266166 (sm_PB_X q.1 (by omega) q.2.1 q.2.2 (by omega) (by omega)) (by omega) (by omega) (by omega) (by omega) (by omega) (by omega) (by omega) (by omega) (by omega) (by omega) (by omega) (by omega) (by omega) (by omega) hb rfl
theorem sm_n0_2 {F : Nat → Nat → Int} (h : sm_k0 F) (hP : (F 0 0).natAbs = 2) {row col : Nat} (hb : sm_brg 0 (sm_rd 0 F) row col) : sm_kk (sm_rd 0 F row col).natAbs 45 1557 1953 16038 (sm_zz 0 row col (sm_rd 0 F)) := by
  have q : sm_aft 2 9 99 99 2916 (sm_rd 0 F) := sm_k0_aft h hP (by omega)
  exact sm_aft_kk q 45 1557 1953 16038 99 99 (fun i hi => sm_k0_X h hP hi) (by omega) (by omega) (by omega) (by omega) (by omega) (by omega) (by omega) (by omega) (by omega) (by omega) (by omega) (by omega) (by omega) (by omega) hb rfl
theorem sm_a0_2 {F : Nat → Nat → Int} (h : sm_k0 F) (hP : (F 0 0).natAbs = 2) (hc : sm_clean 0 (sm_rd 0 F)) {i : Nat} (hf : sm_fst 0 i (sm_rd 0 F)) {row col : Nat} (hb : sm_brg 0 (sm_add 0 i (sm_rd 0 F)) row col) : sm_kk (sm_add 0 i (sm_rd 0 F) row col).natAbs 54 1557 4181 81648 (sm_zz 0 row col (sm_add 0 i (sm_rd 0 F))) := by
  have q0 : sm_aft 2 9 99 99 2916 (sm_rd 0 F) := sm_k0_aft h hP (by omega)
  have hi := hf.1
  have q : sm_aft 2 54 99 99 2916 (sm_add 0 i (sm_rd 0 F)) := sm_add_aft q0.1 (by omega) hc q0.2.2 (by omega) hf.2.1 (sm_k0_X3 h hP hf.2.1)
  exact sm_aft_kk q 54 1557 4181 81648 99 99 (fun r hr => sm_k0_Xa h hP hc (by omega) hf.2.1 hr) (by omega) (by omega) (by omega) (by omega) (by omega) (by omega) (by omega) (by omega) (by omega) (by omega) (by omega) (by omega) (by omega) (by omega) hb rfl
theorem sm_n0_3 {F : Nat → Nat → Int} (h : sm_k0 F) (hP : (F 0 0).natAbs = 3) {row col : Nat} (hb : sm_brg 0 (sm_rd 0 F) row col) : sm_kk (sm_rd 0 F row col).natAbs 36 1164 1500 12636 (sm_zz 0 row col (sm_rd 0 F)) := by
  have q : sm_aft 3 9 108 108 2916 (sm_rd 0 F) := sm_k0_aft h hP (by omega)
  exact sm_aft_kk q 36 1164 1500 12636 144 144 (fun i hi => sm_k0_X h hP hi) (by omega) (by omega) (by omega) (by omega) (by omega) (by omega) (by omega) (by omega) (by omega) (by omega) (by omega) (by omega) (by omega) (by omega) hb rfl
theorem sm_a0_3 {F : Nat → Nat → Int} (h : sm_k0 F) (hP : (F 0 0).natAbs = 3) (hc : sm_clean 0 (sm_rd 0 F)) {i : Nat} (hf : sm_fst 0 i (sm_rd 0 F)) {row col : Nat} (hb : sm_brg 0 (sm_add 0 i (sm_rd 0 F)) row col) : sm_kk (sm_add 0 i (sm_rd 0 F) row col).natAbs 45 1164 3228 47628 (sm_zz 0 row col (sm_add 0 i (sm_rd 0 F))) := by
  have q0 : sm_aft 3 9 108 108 2916 (sm_rd 0 F) := sm_k0_aft h hP (by omega)
  have hi := hf.1
  have q : sm_aft 3 45 108 108 2916 (sm_add 0 i (sm_rd 0 F)) := sm_add_aft q0.1 (by omega) hc q0.2.2 (by omega) hf.2.1 (sm_k0_X3 h hP hf.2.1)
  exact sm_aft_kk q 45 1164 3228 47628 144 144 (fun r hr => sm_k0_Xa h hP hc (by omega) hf.2.1 hr) (by omega) (by omega) (by omega) (by omega) (by omega) (by omega) (by omega) (by omega) (by omega) (by omega) (by omega) (by omega) (by omega) (by omega) hb rfl
theorem sm_n0_4 {F : Nat → Nat → Int} (h : sm_k0 F) (hP : (F 0 0).natAbs = 4) {row col : Nat} (hb : sm_brg 0 (sm_rd 0 F) row col) : sm_kk (sm_rd 0 F row col).natAbs 27 993 1257 10935 (sm_zz 0 row col (sm_rd 0 F)) := by
  have q : sm_aft 4 9 117 117 2916 (sm_rd 0 F) := sm_k0_aft h hP (by omega)
  exact sm_aft_kk q 27 993 1257 10935 176 176 (fun i hi => sm_k0_X h hP hi) (by omega) (by omega) (by omega) (by omega) (by omega) (by omega) (by omega) (by omega) (by omega) (by omega) (by omega) (by omega) (by omega) (by omega) hb rfl
theorem sm_a0_4 {F : Nat → Nat → Int} (h : sm_k0 F) (hP : (F 0 0).natAbs = 4) (hc : sm_clean 0 (sm_rd 0 F)) {i : Nat} (hf : sm_fst 0 i (sm_rd 0 F)) {row col : Nat} (hb : sm_brg 0 (sm_add 0 i (sm_rd 0 F)) row col) : sm_kk (sm_add 0 i (sm_rd 0 F) row col).natAbs 36 993 2445 30618 (sm_zz 0 row col (sm_add 0 i (sm_rd 0 F))) := by
  have q0 : sm_aft 4 9 117 117 2916 (sm_rd 0 F) := sm_k0_aft h hP (by omega)
  have hi := hf.1
  have q : sm_aft 4 36 117 117 2916 (sm_add 0 i (sm_rd 0 F)) := sm_add_aft q0.1 (by omega) hc q0.2.2 (by omega) hf.2.1 (sm_k0_X3 h hP hf.2.1)
  exact sm_aft_kk q 36 993 2445 30618 176 176 (fun r hr => sm_k0_Xa h hP hc (by omega) hf.2.1 hr) (by omega) (by omega) (by omega) (by omega) (by omega) (by omega) (by omega) (by omega) (by omega) (by omega) (by omega) (by omega) (by omega) (by omega) hb rfl
theorem sm_n0_5 {F : Nat → Nat → Int} (h : sm_k0 F) (hP : (F 0 0).natAbs = 5) {row col : Nat} (hb : sm_brg 0 (sm_rd 0 F) row col) : sm_kk (sm_rd 0 F row col).natAbs 18 907 1109 9915 (sm_zz 0 row col (sm_rd 0 F)) := by
  have q : sm_aft 5 9 126 126 2916 (sm_rd 0 F) := sm_k0_aft h hP (by omega)
  exact sm_aft_kk q 18 907 1109 9915 202 202 (fun i hi => sm_k0_X h hP hi) (by omega) (by omega) (by omega) (by omega) (by omega) (by omega) (by omega) (by omega) (by omega) (by omega) (by omega) (by omega) (by omega) (by omega) hb rfl
theorem sm_a0_5 {F : Nat → Nat → Int} (h : sm_k0 F) (hP : (F 0 0).natAbs = 5) (hc : sm_clean 0 (sm_rd 0 F)) {i : Nat} (hf : sm_fst 0 i (sm_rd 0 F)) {row col : Nat} (hb : sm_brg 0 (sm_add 0 i (sm_rd 0 F)) row col) : sm_kk (sm_add 0 i (sm_rd 0 F) row col).natAbs 27 907 1836 20412 (sm_zz 0 row col (sm_add 0 i (sm_rd 0 F))) := by
  have q0 : sm_aft 5 9 126 126 2916 (sm_rd 0 F) := sm_k0_aft h hP (by omega)
  have hi := hf.1
  have q : sm_aft 5 27 126 126 2916 (sm_add 0 i (sm_rd 0 F)) := sm_add_aft q0.1 (by omega) hc q0.2.2 (by omega) hf.2.1 (sm_k0_X3 h hP hf.2.1)
  exact sm_aft_kk q 27 907 1836 20412 202 202 (fun r hr => sm_k0_Xa h hP hc (by omega) hf.2.1 hr) (by omega) (by omega) (by omega) (by omega) (by omega) (by omega) (by omega) (by omega) (by omega) (by omega) (by omega) (by omega) (by omega) (by omega) hb rfl
theorem sm_n0_6 {F : Nat → Nat → Int} (h : sm_k0 F) (hP : (F 0 0).natAbs = 6) {row col : Nat} (hb : sm_brg 0 (sm_rd 0 F) row col) : sm_kk (sm_rd 0 F row col).natAbs 18 861 1011 9234 (sm_zz 0 row col (sm_rd 0 F)) := by
  have q : sm_aft 6 9 135 135 2916 (sm_rd 0 F) := sm_k0_aft h hP (by omega)
  exact sm_aft_kk q 18 861 1011 9234 225 225 (fun i hi => sm_k0_X h hP hi) (by omega) (by omega) (by omega) (by omega) (by omega) (by omega) (by omega) (by omega) (by omega) (by omega) (by omega) (by omega) (by omega) (by omega) hb rfl
theorem sm_a0_6 {F : Nat → Nat → Int} (h : sm_k0 F) (hP : (F 0 0).natAbs = 6) (hc : sm_clean 0 (sm_rd 0 F)) {i : Nat} (hf : sm_fst 0 i (sm_rd 0 F)) {row col : Nat} (hb : sm_brg 0 (sm_add 0 i (sm_rd 0 F)) row col) : sm_kk (sm_add 0 i (sm_rd 0 F) row col).natAbs 27 861 1686 17982 (sm_zz 0 row col (sm_add 0 i (sm_rd 0 F))) := by
  have q0 : sm_aft 6 9 135 135 2916 (sm_rd 0 F) := sm_k0_aft h hP (by omega)
  have hi := hf.1
  have q : sm_aft 6 27 135 135 2916 (sm_add 0 i (sm_rd 0 F)) := sm_add_aft q0.1 (by omega) hc q0.2.2 (by omega) hf.2.1 (sm_k0_X3 h hP hf.2.1)
  exact sm_aft_kk q 27 861 1686 17982 225 225 (fun r hr => sm_k0_Xa h hP hc (by omega) hf.2.1 hr) (by omega) (by omega) (by omega) (by omega) (by omega) (by omega) (by omega) (by omega) (by omega) (by omega) (by omega) (by omega) (by omega) (by omega) hb rfl
theorem sm_n0_7 {F : Nat → Nat → Int} (h : sm_k0 F) (hP : (F 0 0).natAbs = 7) {row col : Nat} (hb : sm_brg 0 (sm_rd 0 F) row col) : sm_kk (sm_rd 0 F row col).natAbs 18 840 946 8748 (sm_zz 0 row col (sm_rd 0 F)) := by
  have q : sm_aft 7 9 144 144 2916 (sm_rd 0 F) := sm_k0_aft h hP (by omega)
  exact sm_aft_kk q 18 840 946 8748 247 247 (fun i hi => sm_k0_X h hP hi) (by omega) (by omega) (by omega) (by omega) (by omega) (by omega) (by omega) (by omega) (by omega) (by omega) (by omega) (by omega) (by omega) (by omega) hb rfl
theorem sm_a0_7 {F : Nat → Nat → Int} (h : sm_k0 F) (hP : (F 0 0).natAbs = 7) (hc : sm_clean 0 (sm_rd 0 F)) {i : Nat} (hf : sm_fst 0 i (sm_rd 0 F)) {row col : Nat} (hb : sm_brg 0 (sm_add 0 i (sm_rd 0 F)) row col) : sm_kk (sm_add 0 i (sm_rd 0 F) row col).natAbs 27 840 1581 16247 (sm_zz 0 row col (sm_add 0 i (sm_rd 0 F))) := by
  have q0 : sm_aft 7 9 144 144 2916 (sm_rd 0 F) := sm_k0_aft h hP (by omega)
  have hi := hf.1
  have q : sm_aft 7 27 144 144 2916 (sm_add 0 i (sm_rd 0 F)) := sm_add_aft q0.1 (by omega) hc q0.2.2 (by omega) hf.2.1 (sm_k0_X3 h hP hf.2.1)
  exact sm_aft_kk q 27 840 1581 16247 247 247 (fun r hr => sm_k0_Xa h hP hc (by omega) hf.2.1 hr) (by omega) (by omega) (by omega) (by omega) (by omega) (by omega) (by omega) (by omega) (by omega) (by omega) (by omega) (by omega) (by omega) (by omega) hb rfl
theorem sm_n0_8 {F : Nat → Nat → Int} (h : sm_k0 F) (hP : (F 0 0).natAbs = 8) {row col : Nat} (hb : sm_brg 0 (sm_rd 0 F) row col) : sm_kk (sm_rd 0 F row col).natAbs 18 834 901 8384 (sm_zz 0 row col (sm_rd 0 F)) := by
  have q : sm_aft 8 9 153 153 2916 (sm_rd 0 F) := sm_k0_aft h hP (by omega)
  exact sm_aft_kk q 18 834 901 8384 268 268 (fun i hi => sm_k0_X h hP hi) (by omega) (by omega) (by omega) (by omega) (by omega) (by omega) (by omega) (by omega) (by omega) (by omega) (by omega) (by omega) (by omega) (by omega) hb rfl
theorem sm_a0_8 {F : Nat → Nat → Int} (h : sm_k0 F) (hP : (F 0 0).natAbs = 8) (hc : sm_clean 0 (sm_rd 0 F)) {i : Nat} (hf : sm_fst 0 i (sm_rd 0 F)) {row col : Nat} (hb : sm_brg 0 (sm_add 0 i (sm_rd 0 F)) row col) : sm_kk (sm_add 0 i (sm_rd 0 F) row col).natAbs 27 834 1504 14945 (sm_zz 0 row col (sm_add 0 i (sm_rd 0 F))) := by
  have q0 : sm_aft 8 9 153 153 2916 (sm_rd 0 F) := sm_k0_aft h hP (by omega)
  have hi := hf.1
  have q : sm_aft 8 27 153 153 2916 (sm_add 0 i (sm_rd 0 F)) := sm_add_aft q0.1 (by omega) hc q0.2.2 (by omega) hf.2.1 (sm_k0_X3 h hP hf.2.1)
  exact sm_aft_kk q 27 834 1504 14945 268 268 (fun r hr => sm_k0_Xa h hP hc (by omega) hf.2.1 hr) (by omega) (by omega) (by omega) (by omega) (by omega) (by omega) (by omega) (by omega) (by omega) (by omega) (by omega) (by omega) (by omega) (by omega) hb rfl
end
section
/-! the loop at the first place keeps its statement -/
theorem sm_q1 {F : Nat → Nat → Int} {P X N C T : Nat} (h : sm_kk P X N C T F) (hP : P = 1) (h1 : X ≤ 133602) (h2 : N ≤ 5899) (h3 : C ≤ 14297345) (h4 : T ≤ 15060654) : sm_Q0 F := by
  subst hP; exact Or.inr (Or.inr (Or.inr (Or.inr (Or.inr (Or.inr (Or.inr (sm_kk_le h h1 h2 h3 h4)))))))
theorem sm_q2 {F : Nat → Nat → Int} {P X N C T : Nat} (h : sm_kk P X N C T F) (hP : P = 2) (h1 : X ≤ 630) (h2 : N ≤ 2771) (h3 : C ≤ 19326) (h4 : T ≤ 53460) : sm_Q0 F := by
  subst hP; exact Or.inr (Or.inr (Or.inr (Or.inr (Or.inr (Or.inl (sm_kk_le h h1 h2 h3 h4))))))
theorem sm_q2e {F : Nat → Nat → Int} {P X N C T : Nat} (h : sm_kk P X N C T F) (hP : P = 2) (h1 : X ≤ 1038) (h2 : N ≤ 2738) (h3 : C ≤ 266166) (h4 : T ≤ 648324) (ho : sm_off 3 F) : sm_Q0 F := by
  subst hP; exact Or.inr (Or.inr (Or.inr (Or.inr (Or.inr (Or.inr (Or.inl ⟨sm_kk_le h h1 h2 h3 h4, ho⟩))))))
theorem sm_q3f {F : Nat → Nat → Int} {P X N C T : Nat} (h : sm_kk P X N C T F) (hP : P = 3) (h1 : X ≤ 27) (h2 : N ≤ 907) (h3 : C ≤ 1836) (h4 : T ≤ 20412) : sm_Q0 F := by
  subst hP; exact Or.inr (Or.inr (Or.inr (Or.inl (sm_kk_le h h1 h2 h3 h4))))
theorem sm_q3t {F : Nat → Nat → Int} {P X N C T : Nat} (h : sm_kk P X N C T F) (hP : P = 3) (h1 : X ≤ 36) (h2 : N ≤ 993) (h3 : C ≤ 2445) (h4 : T ≤ 30618) (ho : sm_off 4 F ∨ sm_row 4 F) : sm_Q0 F := by
  subst hP; exact Or.inr (Or.inr (Or.inl ⟨sm_kk_le h h1 h2 h3 h4, ho⟩))
theorem sm_q3e {F : Nat → Nat → Int} {P X N C T : Nat} (h : sm_kk P X N C T F) (hP : P = 3) (h1 : X ≤ 480) (h2 : N ≤ 2771) (h3 : C ≤ 16356) (h4 : T ≤ 50301) (ho : sm_off 4 F) : sm_Q0 F := by
  subst hP; exact Or.inr (Or.inr (Or.inr (Or.inr (Or.inl ⟨sm_kk_le h h1 h2 h3 h4, ho⟩))))
theorem sm_q4 {F : Nat → Nat → Int} {P X N C T : Nat} (h : sm_kk P X N C T F) (hP : P = 4) (h1 : X ≤ 27) (h2 : N ≤ 907) (h3 : C ≤ 1836) (h4 : T ≤ 20412) (ho : sm_off 5 F ∨ sm_row 5 F) : sm_Q0 F := by
  subst hP; exact Or.inr (Or.inl ⟨sm_kk_le h h1 h2 h3 h4, ho⟩)
theorem sm_rowno {G : Nat → Nat → Int} {q col : Nat} (h : sm_row q G) (h1 : 1 ≤ col) (h2 : col < 3) (h0 : (G 1 col).natAbs ≠ 0) (hq : (G 1 col).natAbs ≠ q) : False := by
  have : col = 1 ∨ col = 2 := by omega
  rcases this with rfl | rfl <;> rcases h.2 with z | z <;> omega
theorem sm_tieO {G : Nat → Nat → Int} {row col P : Nat} (h : sm_off P (sm_zz 0 row col G) ∨ (row = 1 ∧ G 0 1 = 0 ∧ G 0 2 = 0 ∧ 1 ≤ col ∧ col < 3 ∧ sm_row P (sm_zz 0 row col G))) : sm_off P (sm_zz 0 row col G) ∨ sm_row P (sm_zz 0 row col G) := by
  rcases h with h | h
  · exact Or.inl h
  · exact Or.inr h.2.2.2.2.2
theorem sm_tieR {G : Nat → Nat → Int} {row col P : Nat} (hz : sm_nzr G) (h : sm_off P (sm_zz 0 row col G) ∨ (row = 1 ∧ G 0 1 = 0 ∧ G 0 2 = 0 ∧ 1 ≤ col ∧ col < 3 ∧ sm_row P (sm_zz 0 row col G))) : sm_off P (sm_zz 0 row col G) := by
  rcases h with h | h
  · exact h
  · obtain ⟨j, h1, h2, h3⟩ := hz
    have : j = 1 ∨ j = 2 := by omega
    rcases this with rfl | rfl
    · exact absurd h.2.1 h3
    · exact absurd h.2.2.1 h3
theorem sm_T0n {F : Nat → Nat → Int} (hQ : sm_Q0 F) (hc : ¬ sm_clean 0 (sm_rd 0 F)) {row col : Nat} (hb : sm_brg 0 (sm_rd 0 F) row col) (hp : F 0 0 ≠ 0) : sm_Q0 (sm_zz 0 row col (sm_rd 0 F)) := by
  have hn := sm_Nrm_rd hp
  have hz := sm_rd_nz hc
  have hlt := sm_brg_lt hb hn hz
  have hpos := sm_brg_pos hb
  rw [sm_e00] at hlt
  rcases hQ with h | ⟨h, hs⟩ | ⟨h, hs⟩ | h | ⟨h, hs⟩ | h | ⟨h, hs⟩ | h
  · have h9 := h.1 0 0 (by omega) (by omega)
    have hk := fun {P : Nat} (hP : (F 0 0).natAbs = P) (h5 : 5 ≤ P) => sm_k0_n h hP h5 hc hb
    have cs : (F 0 0).natAbs = 1 ∨ (F 0 0).natAbs = 2 ∨ (F 0 0).natAbs = 3 ∨ (F 0 0).natAbs = 4 ∨ (F 0 0).natAbs = 5 ∨ (F 0 0).natAbs = 6 ∨ (F 0 0).natAbs = 7 ∨ (F 0 0).natAbs = 8 ∨ (F 0 0).natAbs = 9 := by omega
    rcases cs with e | e | e | e | e | e | e | e | e
    · omega
    · exact sm_q1 (sm_n0_2 h e hb) (by omega) (by omega) (by omega) (by omega) (by omega)
    · have cs : (sm_rd 0 F row col).natAbs = 1 ∨ (sm_rd 0 F row col).natAbs = 2 := by omega
      rcases cs with c | c
      · exact sm_q1 (sm_n0_3 h e hb) c (by omega) (by omega) (by omega) (by omega)
      · exact sm_q2 (sm_n0_3 h e hb) c (by omega) (by omega) (by omega) (by omega)
    · have cs : (sm_rd 0 F row col).natAbs = 1 ∨ (sm_rd 0 F row col).natAbs = 2 ∨ (sm_rd 0 F row col).natAbs = 3 := by omega
      rcases cs with c | c | c
      · exact sm_q1 (sm_n0_4 h e hb) c (by omega) (by omega) (by omega) (by omega)
      · exact sm_q2 (sm_n0_4 h e hb) c (by omega) (by omega) (by omega) (by omega)
      · exact sm_q3t (sm_n0_4 h e hb) c (by omega) (by omega) (by omega) (by omega) (sm_tieO (sm_tie hb hn hz e (by omega)))
    · have cs : (sm_rd 0 F row col).natAbs = 1 ∨ (sm_rd 0 F row col).natAbs = 2 ∨ (sm_rd 0 F row col).natAbs = 3 ∨ (sm_rd 0 F row col).natAbs = 4 := by omega
      rcases cs with c | c | c | c
      · exact sm_q1 (sm_n0_5 h e hb) c (by omega) (by omega) (by omega) (by omega)
      · exact sm_q2 (sm_n0_5 h e hb) c (by omega) (by omega) (by omega) (by omega)
      · exact sm_q3f (sm_n0_5 h e hb) c (by omega) (by omega) (by omega) (by omega)
      · exact sm_q4 (sm_n0_5 h e hb) c (by omega) (by omega) (by omega) (by omega) (sm_tieO (sm_tie hb hn hz e (by omega)))
    · have := hk e (by omega)
      have cs : (sm_rd 0 F row col).natAbs = 1 ∨ (sm_rd 0 F row col).natAbs = 2 ∨ (sm_rd 0 F row col).natAbs = 3 := by omega
      rcases cs with c | c | c
      · exact sm_q1 (sm_n0_6 h e hb) c (by omega) (by omega) (by omega) (by omega)
      · exact sm_q2 (sm_n0_6 h e hb) c (by omega) (by omega) (by omega) (by omega)
      · exact sm_q3f (sm_n0_6 h e hb) c (by omega) (by omega) (by omega) (by omega)
    · have := hk e (by omega)
      have cs : (sm_rd 0 F row col).natAbs = 1 ∨ (sm_rd 0 F row col).natAbs = 2 := by omega
      rcases cs with c | c
      · exact sm_q1 (sm_n0_7 h e hb) c (by omega) (by omega) (by omega) (by omega)
      · exact sm_q2 (sm_n0_7 h e hb) c (by omega) (by omega) (by omega) (by omega)
    · have := hk e (by omega)
      exact sm_q1 (sm_n0_8 h e hb) (by omega) (by omega) (by omega) (by omega) (by omega)
    · have := hk e (by omega)
      omega
  · have e := h.1
    have hk := sm_n4 h hb
    rcases hs with hs | hs
    · exact sm_q1 hk ((sm_off_1 e (by omega) hs).2 row col hb) (by omega) (by omega) (by omega) (by omega)
    · have cs : (sm_rd 0 F row col).natAbs = 1 ∨ (sm_rd 0 F row col).natAbs = 2 ∨ (sm_rd 0 F row col).natAbs = 3 := by omega
      rcases cs with c | c | c
      · exact sm_q1 hk c (by omega) (by omega) (by omega) (by omega)
      · exact sm_q2 hk c (by omega) (by omega) (by omega) (by omega)
      · rcases sm_tie hb hn hz e (by omega) with q | ⟨rfl, -, -, c1, c2, -⟩
        · exact sm_q3e hk c (by omega) (by omega) (by omega) (by omega) q
        · exact (sm_rowno (sm_row_rd hs) c1 c2 (by omega) (by omega)).elim
  · have e := h.1
    have hk := sm_n3t h hb
    rcases hs with hs | hs
    · exact sm_q1 hk ((sm_off_1 e (by omega) hs).2 row col hb) (by omega) (by omega) (by omega) (by omega)
    · have cs : (sm_rd 0 F row col).natAbs = 1 ∨ (sm_rd 0 F row col).natAbs = 2 := by omega
      rcases cs with c | c
      · exact sm_q1 hk c (by omega) (by omega) (by omega) (by omega)
      · rcases sm_tie hb hn hz e (by omega) with q | ⟨rfl, -, -, c1, c2, -⟩
        · exact sm_q2e hk c (by omega) (by omega) (by omega) (by omega) q
        · exact (sm_rowno (sm_row_rd hs) c1 c2 (by omega) (by omega)).elim
  · have e := h.1
    have hk := sm_n3f h hb
    have cs : (sm_rd 0 F row col).natAbs = 1 ∨ (sm_rd 0 F row col).natAbs = 2 := by omega
    rcases cs with c | c
    · exact sm_q1 hk c (by omega) (by omega) (by omega) (by omega)
    · exact sm_q2 hk c (by omega) (by omega) (by omega) (by omega)
  · have e := h.1
    exact sm_q1 (sm_n3e h hb) ((sm_off_1 e (by omega) hs).2 row col hb) (by omega) (by omega) (by omega) (by omega)
  · have e := h.1
    exact sm_q1 (sm_n2g h hb) (by omega) (by omega) (by omega) (by omega) (by omega)
  · have e := h.1
    exact sm_q1 (sm_n2e h hb) (by omega) (by omega) (by omega) (by omega) (by omega)
  · have e := h.1
    omega
theorem sm_T0a {F : Nat → Nat → Int} (hQ : sm_Q0 F) (hc : sm_clean 0 (sm_rd 0 F)) {i : Nat} (hf : sm_fst 0 i (sm_rd 0 F)) {row col : Nat} (hb : sm_brg 0 (sm_add 0 i (sm_rd 0 F)) row col) (hp : F 0 0 ≠ 0) :
    sm_Q0 (sm_zz 0 row col (sm_add 0 i (sm_rd 0 F))) ∧ (sm_add 0 i (sm_rd 0 F) row col).natAbs < (F 0 0).natAbs := by
  have hi := hf.1
  have hn := sm_add_Nrm (F := sm_rd 0 F) hp hc (i := i) (by omega) hf.2.1
  have hzr := sm_add_nz hc hf
  have hz := sm_nzr_nz hzr
  have hlt := sm_brg_lt hb hn hz
  have hpos := sm_brg_pos hb
  have e00 : sm_add 0 i (sm_rd 0 F) 0 0 = F 0 0 := sm_f00 hc (by omega) hf.2.1
  rw [e00] at hlt
  refine ⟨?_, hlt⟩
  rcases hQ with h | ⟨h, hs⟩ | ⟨h, hs⟩ | h | ⟨h, hs⟩ | h | ⟨h, hs⟩ | h
  · have h9 := h.1 0 0 (by omega) (by omega)
    have hk := fun {P : Nat} (hP : (F 0 0).natAbs = P) (h5 : 5 ≤ P) => sm_k0_a h hP h5 hc hf hb
    have cs : (F 0 0).natAbs = 1 ∨ (F 0 0).natAbs = 2 ∨ (F 0 0).natAbs = 3 ∨ (F 0 0).natAbs = 4 ∨ (F 0 0).natAbs = 5 ∨ (F 0 0).natAbs = 6 ∨ (F 0 0).natAbs = 7 ∨ (F 0 0).natAbs = 8 ∨ (F 0 0).natAbs = 9 := by omega
    have e00' : ∀ {P : Nat}, (F 0 0).natAbs = P → (sm_add 0 i (sm_rd 0 F) 0 0).natAbs = P := fun q => by rw [e00]; exact q
    generalize hG : sm_add 0 i (sm_rd 0 F) = G at *
    rcases cs with e | e | e | e | e | e | e | e | e
    · omega
    · have hq := sm_a0_2 h e hc hf (by rw [hG]; exact hb); rw [hG] at hq
      exact sm_q1 hq (by omega) (by omega) (by omega) (by omega) (by omega)
    · have hq := sm_a0_3 h e hc hf (by rw [hG]; exact hb); rw [hG] at hq
      have cs : (G row col).natAbs = 1 ∨ (G row col).natAbs = 2 := by omega
      rcases cs with c | c
      · exact sm_q1 hq c (by omega) (by omega) (by omega) (by omega)
      · exact sm_q2 hq c (by omega) (by omega) (by omega) (by omega)
    · have hq := sm_a0_4 h e hc hf (by rw [hG]; exact hb); rw [hG] at hq
      have cs : (G row col).natAbs = 1 ∨ (G row col).natAbs = 2 ∨ (G row col).natAbs = 3 := by omega
      rcases cs with c | c | c
      · exact sm_q1 hq c (by omega) (by omega) (by omega) (by omega)
      · exact sm_q2 hq c (by omega) (by omega) (by omega) (by omega)
      · exact sm_q3t hq c (by omega) (by omega) (by omega) (by omega) (sm_tieO (sm_tie hb hn hz (e00' e) (by omega)))
    · have hq := sm_a0_5 h e hc hf (by rw [hG]; exact hb); rw [hG] at hq
      have cs : (G row col).natAbs = 1 ∨ (G row col).natAbs = 2 ∨ (G row col).natAbs = 3 ∨ (G row col).natAbs = 4 := by omega
      rcases cs with c | c | c | c
      · exact sm_q1 hq c (by omega) (by omega) (by omega) (by omega)
      · exact sm_q2 hq c (by omega) (by omega) (by omega) (by omega)
      · exact sm_q3f hq c (by omega) (by omega) (by omega) (by omega)
      · exact sm_q4 hq c (by omega) (by omega) (by omega) (by omega) (sm_tieO (sm_tie hb hn hz (e00' e) (by omega)))
    · have := hk e (by omega)
      have hq := sm_a0_6 h e hc hf (by rw [hG]; exact hb); rw [hG] at hq
      have cs : (G row col).natAbs = 1 ∨ (G row col).natAbs = 2 ∨ (G row col).natAbs = 3 := by omega
      rcases cs with c | c | c
      · exact sm_q1 hq c (by omega) (by omega) (by omega) (by omega)
      · exact sm_q2 hq c (by omega) (by omega) (by omega) (by omega)
      · exact sm_q3f hq c (by omega) (by omega) (by omega) (by omega)
    · have := hk e (by omega)
      have hq := sm_a0_7 h e hc hf (by rw [hG]; exact hb); rw [hG] at hq
      have cs : (G row col).natAbs = 1 ∨ (G row col).natAbs = 2 := by omega
      rcases cs with c | c
      · exact sm_q1 hq c (by omega) (by omega) (by omega) (by omega)
      · exact sm_q2 hq c (by omega) (by omega) (by omega) (by omega)
    · have := hk e (by omega)
      have hq := sm_a0_8 h e hc hf (by rw [hG]; exact hb); rw [hG] at hq
      exact sm_q1 hq (by omega) (by omega) (by omega) (by omega) (by omega)
    · have := hk e (by omega)
      omega
  · have e := h.1
    rcases hs with hs | hs
    · exact absurd hc (sm_off_1 e (by omega) hs).1
    · exact sm_q1 (sm_a4 h hc hf hb) (sm_row_add (F := sm_rd 0 F) e (by omega) hc (sm_row_rd hs) hf hb) (by omega) (by omega) (by omega) (by omega)
  · have e := h.1
    rcases hs with hs | hs
    · exact absurd hc (sm_off_1 e (by omega) hs).1
    · exact sm_q1 (sm_a3t h hc hf hb) (sm_row_add (F := sm_rd 0 F) e (by omega) hc (sm_row_rd hs) hf hb) (by omega) (by omega) (by omega) (by omega)
  · have e := h.1
    have hk := sm_a3f h hc hf hb
    have cs : (sm_add 0 i (sm_rd 0 F) row col).natAbs = 1 ∨ (sm_add 0 i (sm_rd 0 F) row col).natAbs = 2 := by omega
    rcases cs with c | c
    · exact sm_q1 hk c (by omega) (by omega) (by omega) (by omega)
    · exact sm_q2e hk c (by omega) (by omega) (by omega) (by omega) (sm_tieR hzr (sm_tie hb hn hz (by rw [e00]; exact e) (by omega)))
  · exact absurd hc (sm_off_1 h.1 (by omega) hs).1
  · have e := h.1
    exact sm_q1 (sm_a2g h hc hf hb) (by omega) (by omega) (by omega) (by omega) (by omega)
  · exact absurd hc (sm_off_1 h.1 (by omega) hs).1
  · have e := h.1
    omega
/-- what is known of each state, weakly -/
theorem sm_Q0_w {F : Nat → Nat → Int} (hQ : sm_Q0 F) : F 0 0 ≠ 0 ∧ (F 0 0).natAbs ≤ 9 ∧ sm_ent 6000 F ∧ sm_PB F 133602 5899 14297345 15060654 := by
  have hw : ∀ {P X N C T : Nat}, sm_kk P X N C T F → 1 ≤ P → P ≤ 9 → X ≤ 133602 → N ≤ 5899 → C ≤ 14297345 → T ≤ 15060654 → F 0 0 ≠ 0 ∧ (F 0 0).natAbs ≤ 9 ∧ sm_ent 6000 F ∧ sm_PB F 133602 5899 14297345 15060654 := by
    intro P X N C T h h1 h9 a b c d
    have := h.1
    exact ⟨by omega, by omega, h.2.2, sm_PB_le (sm_AM_PB h.2.1) a b c d⟩
  rcases hQ with h | ⟨h, hs⟩ | ⟨h, hs⟩ | h | ⟨h, hs⟩ | h | ⟨h, hs⟩ | h
  · obtain ⟨h9, hne, -⟩ := h
    refine ⟨hne, h9 0 0 (by omega) (by omega), fun r c hr hc => Nat.le_trans (h9 r c hr (by omega)) (by omega), ?_⟩
    have hb : ∀ i j, 1 ≤ i → i < 3 → 1 ≤ j → j < 4 → (sm_m2 F 0 i 0 j).natAbs ≤ 162 := by
      intro i j _ hi _ hj
      unfold sm_m2
      exact sm_n2 (sm_nmul (h9 0 0 (by omega) (by omega)) (h9 i j hi hj)) (sm_nmul (h9 0 j (by omega) hj) (h9 i 0 hi (by omega)))
    exact sm_PB_le (X := 9) (N := 162) (C := 162) (T := 2916) ⟨h9 0 3 (by omega) (by omega), fun i j a b c d => hb i j a b c (by omega), fun i a b => hb i 3 a b (by omega) (by omega), fun j _ hj => sm_m3_9 h9 (by omega) (by omega) (by omega), sm_m3_9 h9 (by omega) (by omega) (by omega)⟩ (by omega) (by omega) (by omega) (by omega)
  all_goals exact hw h (by omega) (by omega) (by omega) (by omega) (by omega) (by omega)
/-- the state when the first place is done -/
def sm_N0 (F : Nat → Nat → Int) : Prop :=
  F 0 0 ≠ 0 ∧ (F 0 0).natAbs ≤ 9 ∧ sm_clean 0 F ∧ sm_divs 0 F ∧ (F 0 3).natAbs ≤ 15000000 ∧ (∀ i, 1 ≤ i → i < 3 → (F i 3).natAbs ≤ 15000000) ∧
  (∀ i j, 1 ≤ i → i < 3 → 1 ≤ j → j < 3 → (F i j).natAbs ≤ 6000) ∧ (∀ j, 1 ≤ j → j < 3 → (sm_m2 F 1 2 j 3).natAbs ≤ 810000000) ∧ (sm_m2 F 1 2 1 2).natAbs ≤ 2916
theorem sm_step0 : sm_Step 0 sm_Q0 sm_N0 := by
  intro F hQ
  obtain ⟨hp, h9, he, hw⟩ := sm_Q0_w hQ
  have haft := sm_rd_aft rfl (by omega) hw
  have hent := sm_aft_ent haft (by omega) h9 (by omega)
  refine ⟨hp, fun r c _ hr _ hc => Nat.lt_of_le_of_lt (he r c hr hc) (by omega), fun r c _ hr _ hc => Nat.lt_of_le_of_lt (hent r c hr hc) (by omega), ?_, ?_, ?_⟩
  · intro hc hd
    have e00 : (sm_rd 0 F 0 0).natAbs = (F 0 0).natAbs := rfl
    obtain ⟨p1, p2, p3, p4, p5⟩ := haft.2.2
    have c1 := hc 1 (by omega) (by omega)
    have c2 := hc 2 (by omega) (by omega)
    refine ⟨hp, h9, hc, hd, by omega, fun i h1 h2 => ?_, fun i j h1 h2 h3 h4 => hent i j h2 h4, fun j h1 h2 => ?_, ?_⟩
    · have h1' : 1 * 14297345 ≤ (F 0 0).natAbs * 14297345 := Nat.mul_le_mul (by omega) (Nat.le_refl _)
      exact Nat.le_trans (sm_cl_r haft.1 (by omega) hc haft.2.2 h1 h2 (Y := 14297345) (by omega)) (by omega)
    · have h1' : 1 * 15060654 ≤ (F 0 0).natAbs * 15060654 := Nat.mul_le_mul (by omega) (Nat.le_refl _)
      refine Nat.le_trans (sm_cn (p := sm_rd 0 F 0 0) (a := 15060654) (b := 15060654) haft.1 (by omega) ?_ (by omega)) (by omega)
      have e : sm_rd 0 F 0 0 * sm_m2 (sm_rd 0 F) 1 2 j 3 = sm_m3 (sm_rd 0 F) 0 j 3 := by
        unfold sm_m2 sm_m3; rw [c1.1, c2.1, (hc j (by omega) h2).2]; grind
      rw [e]; exact p4 j h1 h2
    · have h1' : 1 * 2916 ≤ (F 0 0).natAbs * 2916 := Nat.mul_le_mul (by omega) (Nat.le_refl _)
      refine sm_cn (p := sm_rd 0 F 0 0) (a := 2916) (b := 2916) haft.1 (by omega) ?_ (by omega)
      have e : sm_rd 0 F 0 0 * sm_m2 (sm_rd 0 F) 1 2 1 2 = sm_m3 (sm_rd 0 F) 0 1 2 := by
        unfold sm_m2 sm_m3; rw [c1.1, c2.1, c1.2, c2.2]; grind
      rw [e]; exact p5
  · intro hc row col hb
    refine ⟨sm_T0n hQ hc hb hp, ?_⟩
    have := sm_brg_lt hb (sm_Nrm_rd hp) (sm_rd_nz hc)
    rwa [sm_e00] at this
  · intro hc i hf
    have hi := hf.1
    refine ⟨?_, fun row col hb => sm_T0a hQ hc hf hb hp⟩
    have hq := sm_add_aft (X3 := 133602 + 14297345) haft.1 (by omega) hc haft.2.2 (i := i) (by omega) hf.2.1 (by
      have h1' : 1 * 14297345 ≤ (F 0 0).natAbs * 14297345 := Nat.mul_le_mul (by omega) (Nat.le_refl _)
      have := sm_cl_r haft.1 (by omega) hc haft.2.2 (i := i) (by omega) hf.2.1 (Y := 14297345) (by omega)
      have := haft.2.2.1
      omega)
    have hent2 := sm_aft_ent hq (by omega) h9 (by omega)
    exact fun r c _ hr _ hc => Nat.lt_of_le_of_lt (hent2 r c hr hc) (by omega)
end
section
/-! budgets for the second place, by levels of the pivot (the table is printed by gen12.py) -/
def sm_ts : List Nat := [0, 1, 2, 3, 5, 7, 11, 15, 23, 31, 47, 63, 95, 127, 191, 319, 639, 1279, 1919, 3839, 6000, 1000000]
def sm_tb : List (List Nat) := [[],
  [0, 170803185867681033, 170803185867681033, 170803185867681033, 170803185867681033, 170803185867681033, 170803185867681033, 170803185867681033, 170803185867681033, 170803185867681033, 170803185867681033, 170803185867681033, 170803185867681033, 170803185867681033, 170803185867681033, 170803185867681033, 170803185867681033, 170803185867681033, 170803185867681033, 170803185867681033, 170803185867681033, 170803185867681033],
  [0, 0, 170803185867681033, 6211024940642946, 225780814101362, 225780814101362, 225780814101362, 225780814101362, 225780814101362, 225780814101362, 225780814101362, 225780814101362, 225780814101362, 225780814101362, 225780814101362, 225780814101362, 225780814101362, 225780814101362, 225780814101362, 225780814101362, 225780814101362, 225780814101362],
  [0, 0, 0, 170803185867681033, 332733478963014, 18125559165300, 18125559165300, 18125559165300, 18125559165300, 18125559165300, 18125559165300, 18125559165300, 18125559165300, 18125559165300, 18125559165300, 18125559165300, 18125559165300, 18125559165300, 18125559165300, 18125559165300, 18125559165300, 18125559165300],
  [0, 0, 0, 0, 11986188481942528, 15844267656235, 1149011776597, 1149011776597, 1149011776597, 1149011776597, 1149011776597, 1149011776597, 1149011776597, 1149011776597, 1149011776597, 1149011776597, 1149011776597, 1149011776597, 1149011776597, 1149011776597, 1149011776597, 1149011776597],
  [0, 0, 0, 0, 0, 17369815511967562, 1611281456566, 174432304472, 174432304472, 174432304472, 174432304472, 174432304472, 174432304472, 174432304472, 174432304472, 174432304472, 174432304472, 174432304472, 174432304472, 174432304472, 174432304472, 174432304472],
  [0, 0, 0, 0, 0, 0, 2377122513481, 150690069061, 21603041628, 21603041628, 21603041628, 21603041628, 21603041628, 21603041628, 21603041628, 21603041628, 21603041628, 21603041628, 21603041628, 21603041628, 21603041628, 21603041628],
  [0, 0, 0, 0, 0, 0, 0, 3346257076670, 27819705057, 5871041651, 5871041651, 5871041651, 5871041651, 5871041651, 5871041651, 5871041651, 5871041651, 5871041651, 5871041651, 5871041651, 5871041651, 5871041651],
  [0, 0, 0, 0, 0, 0, 0, 0, 40448070602, 5009400957, 1375716083, 1375716083, 1375716083, 1375716083, 1375716083, 1375716083, 1375716083, 1375716083, 1375716083, 1375716083, 1375716083, 1375716083],
  [0, 0, 0, 0, 0, 0, 0, 0, 0, 54368510484, 1561371726, 605670644, 605670644, 605670644, 605670644, 605670644, 605670644, 605670644, 605670644, 605670644, 605670644, 605670644],
  [0, 0, 0, 0, 0, 0, 0, 0, 0, 0, 2210274503, 517916643, 249952673, 249952673, 249952673, 249952673, 249952673, 249952673, 249952673, 249952673, 249952673, 249952673],
  [0, 0, 0, 0, 0, 0, 0, 0, 0, 0, 0, 2790198012, 246138602, 153693965, 153693965, 153693965, 153693965, 153693965, 153693965, 153693965, 153693965, 153693965],
  [0, 0, 0, 0, 0, 0, 0, 0, 0, 0, 0, 0, 331307018, 134639919, 96903471, 96903471, 96903471, 96903471, 96903471, 96903471, 96903471, 96903471],
  [0, 0, 0, 0, 0, 0, 0, 0, 0, 0, 0, 0, 0, 390230750, 86747867, 72058158, 72058158, 72058158, 72058158, 72058158, 72058158, 72058158],
  [0, 0, 0, 0, 0, 0, 0, 0, 0, 0, 0, 0, 0, 0, 108689654, 54488462, 54488462, 54488462, 54488462, 54488462, 54488462, 54488462],
  [0, 0, 0, 0, 0, 0, 0, 0, 0, 0, 0, 0, 0, 0, 0, 56470066, 40208636, 40208636, 40208636, 40208636, 40208636, 40208636],
  [0, 0, 0, 0, 0, 0, 0, 0, 0, 0, 0, 0, 0, 0, 0, 0, 34495344, 28888115, 28888115, 28888115, 28888115, 28888115],
  [0, 0, 0, 0, 0, 0, 0, 0, 0, 0, 0, 0, 0, 0, 0, 0, 0, 26678778, 24477478, 24477478, 24477478, 24477478],
  [0, 0, 0, 0, 0, 0, 0, 0, 0, 0, 0, 0, 0, 0, 0, 0, 0, 0, 27739525, 23464154, 23464154, 23464154],
  [0, 0, 0, 0, 0, 0, 0, 0, 0, 0, 0, 0, 0, 0, 0, 0, 0, 0, 0, 22833844, 22203375, 22203375],
  [0, 0, 0, 0, 0, 0, 0, 0, 0, 0, 0, 0, 0, 0, 0, 0, 0, 0, 0, 0, 21901094, 21598715]]
def sm_lv : List Nat → Nat → Nat
  | [], _ => 0
  | t :: l, p => if p ≤ t then 0 else sm_lv l p + 1
theorem sm_lv_hi : ∀ (l : List Nat) (p : Nat), sm_lv l p < l.length → p ≤ l.getD (sm_lv l p) 0 := by
  intro l
  induction l with
  | nil => intro p h; exact absurd h (Nat.not_lt_zero _)
  | cons t l ih =>
    intro p h
    by_cases q : p ≤ t
    · have e : sm_lv (t :: l) p = 0 := by show (if p ≤ t then 0 else _) = 0; rw [if_pos q]
      rw [e]; exact q
    · have e : sm_lv (t :: l) p = sm_lv l p + 1 := by show (if p ≤ t then 0 else _) = _; rw [if_neg q]
      rw [e] at h ⊢
      exact ih p (Nat.lt_of_succ_lt_succ h)
theorem sm_lv_lo : ∀ (l : List Nat) (p i : Nat), i < sm_lv l p → l.getD i 0 < p := by
  intro l
  induction l with
  | nil => intro p i h; exact absurd h (Nat.not_lt_zero _)
  | cons t l ih =>
    intro p i h
    by_cases q : p ≤ t
    · have e : sm_lv (t :: l) p = 0 := by show (if p ≤ t then 0 else _) = 0; rw [if_pos q]
      rw [e] at h; exact absurd h (Nat.not_lt_zero _)
    · have e : sm_lv (t :: l) p = sm_lv l p + 1 := by show (if p ≤ t then 0 else _) = _; rw [if_neg q]
      rw [e] at h
      cases i with
      | zero => show t < p; omega
      | succ i => exact ih p i (by omega)
theorem sm_lv_le : ∀ (l : List Nat) (p q : Nat), p ≤ q → sm_lv l p ≤ sm_lv l q := by
  intro l
  induction l with
  | nil => intro p q h; exact Nat.le_refl _
  | cons t l ih =>
    intro p q h
    show (if p ≤ t then 0 else sm_lv l p + 1) ≤ (if q ≤ t then 0 else sm_lv l q + 1)
    have := ih p q h
    split
    · exact Nat.zero_le _
    · rw [if_neg (by omega)]; omega
/-- the level of a pivot; its least and its greatest number -/
def sm_L (p : Nat) : Nat := sm_lv sm_ts p
def sm_lo (i : Nat) : Nat := sm_ts.getD (i - 1) 0 + 1
def sm_hi (i : Nat) : Nat := sm_ts.getD i 0
def sm_bd (i j : Nat) : Nat := (sm_tb.getD i []).getD j 0
def sm_c1 (i j m : Nat) : Bool := !decide (1 ≤ i ∧ 1 ≤ m ∧ m ≤ i ∧ i ≤ j ∧ sm_lo m < sm_hi i) ||
  ((!decide (sm_lo i + sm_lo m ≤ sm_hi j) || decide ((sm_lo i + 53) * sm_bd i j ≤ sm_lo i * sm_bd m i)) &&
   (!decide (2 * sm_lo i ≤ sm_hi j) || decide ((sm_lo i * (sm_lo i + 53) + 2916) * sm_bd i j ≤ sm_lo i * sm_lo i * sm_bd m i)))
theorem sm_c1_t : ((List.range 21).all fun i => (List.range 22).all fun j => (List.range 21).all fun m => sm_c1 i j m) = true := by decide +kernel
theorem sm_c2_t : ((List.range 21).all fun i => (List.range 22).all fun j => !decide (1 ≤ i ∧ i ≤ j) || (decide (54 * sm_bd i j ≤ 9223372036854775807) && decide (15000000 ≤ sm_bd i j))) = true := by decide +kernel
theorem sm_c1_u {i j m : Nat} (hi : i < 21) (hj : j < 22) (hm : m < 21) : sm_c1 i j m = true := by
  have h := List.all_eq_true.mp sm_c1_t i (List.mem_range.mpr hi)
  have h := List.all_eq_true.mp h j (List.mem_range.mpr hj)
  exact List.all_eq_true.mp h m (List.mem_range.mpr hm)
theorem sm_c2_u {i j : Nat} (h1 : 1 ≤ i) (hi : i < 21) (hij : i ≤ j) (hj : j < 22) : 54 * sm_bd i j ≤ 9223372036854775807 ∧ 15000000 ≤ sm_bd i j := by
  have h := List.all_eq_true.mp sm_c2_t i (List.mem_range.mpr hi)
  have h := List.all_eq_true.mp h j (List.mem_range.mpr hj)
  rw [decide_eq_true (show 1 ≤ i ∧ i ≤ j from ⟨h1, hij⟩)] at h
  have h := Bool.and_eq_true_iff.mp h
  exact ⟨of_decide_eq_true h.1, of_decide_eq_true h.2⟩
theorem sm_c1_v {i j m : Nat} (h1 : 1 ≤ i) (hi : i < 21) (hij : i ≤ j) (hj : j < 22) (hm1 : 1 ≤ m) (hm : m ≤ i) (hlt : sm_lo m < sm_hi i) :
    (sm_lo i + sm_lo m ≤ sm_hi j → (sm_lo i + 53) * sm_bd i j ≤ sm_lo i * sm_bd m i) ∧
    (2 * sm_lo i ≤ sm_hi j → (sm_lo i * (sm_lo i + 53) + 2916) * sm_bd i j ≤ sm_lo i * sm_lo i * sm_bd m i) := by
  have h := sm_c1_u hi hj (show m < 21 by omega)
  unfold sm_c1 at h
  rw [decide_eq_true (show 1 ≤ i ∧ 1 ≤ m ∧ m ≤ i ∧ i ≤ j ∧ sm_lo m < sm_hi i from ⟨h1, hm1, hm, hij, hlt⟩)] at h
  have h := Bool.and_eq_true_iff.mp h
  constructor
  · intro q
    have h := h.1
    rw [decide_eq_true q] at h
    exact of_decide_eq_true h
  · intro q
    have h := h.2
    rw [decide_eq_true q] at h
    exact of_decide_eq_true h
theorem sm_L_le {p q : Nat} (h : p ≤ q) : sm_L p ≤ sm_L q := sm_lv_le _ _ _ h
theorem sm_L_1 {p : Nat} (h : 1 ≤ p) : 1 ≤ sm_L p := by
  unfold sm_L sm_ts sm_lv; rw [if_neg (by omega)]; omega
theorem sm_L_i {p : Nat} (h : p ≤ 6000) : sm_L p < 21 :=
  Nat.lt_of_le_of_lt (sm_lv_le _ p 6000 h) (by decide)
theorem sm_L_j {p : Nat} (h : p ≤ 1000000) : sm_L p < 22 :=
  Nat.lt_of_le_of_lt (sm_lv_le _ p 1000000 h) (by decide)
theorem sm_L_hi {p : Nat} (h : p ≤ 1000000) : p ≤ sm_hi (sm_L p) := sm_lv_hi _ _ (sm_L_j h)
theorem sm_L_lo {p : Nat} (h : 1 ≤ p) : sm_lo (sm_L p) ≤ p := by
  have h1 := sm_L_1 h
  exact sm_lv_lo sm_ts p (sm_L p - 1) (by show _ < sm_L p; omega)
theorem sm_lo_1 (i : Nat) : 1 ≤ sm_lo i := Nat.succ_le_succ (Nat.zero_le _)
/-- the budget: what the numbers may be at pivot p with a neighbour within P -/
def sm_Bu (p P : Nat) : Nat := sm_bd (sm_L p) (sm_L P)
theorem sm_mono1 {l p A B : Nat} (h0 : 1 ≤ l) (hl : l ≤ p) (h : (l + 53) * B ≤ l * A) : (p + 53) * B ≤ p * A := by
  have hAB : B ≤ A := by
    have : l * B ≤ l * A := Nat.le_trans (Nat.mul_le_mul (by omega) (Nat.le_refl _)) h
    exact Nat.le_of_mul_le_mul_left this (by omega)
  obtain ⟨k, rfl⟩ : ∃ k, p = l + k := ⟨p - l, by omega⟩
  have e1 : (l + k + 53) * B = (l + 53) * B + k * B := by grind
  have e2 : (l + k) * A = l * A + k * A := by grind
  rw [e1, e2]
  exact Nat.add_le_add h (Nat.mul_le_mul (Nat.le_refl _) hAB)
theorem sm_mono2 {l p A B : Nat} (h0 : 1 ≤ l) (hl : l ≤ p) (h : (l * (l + 53) + 2916) * B ≤ l * l * A) : (p * (p + 53) + 2916) * B ≤ p * p * A := by
  have hll : 0 < l * l := Nat.mul_pos (by omega) (by omega)
  have hAB : B ≤ A := by
    have : l * l * B ≤ l * l * A := Nat.le_trans (Nat.mul_le_mul (by grind) (Nat.le_refl _)) h
    exact Nat.le_of_mul_le_mul_left this hll
  obtain ⟨D, rfl⟩ : ∃ D, A = B + D := ⟨A - B, by omega⟩
  have h1 : (53 * l + 2916) * B ≤ l * l * D := by
    have e1 : (l * (l + 53) + 2916) * B = l * l * B + (53 * l + 2916) * B := by grind
    have e2 : l * l * (B + D) = l * l * B + l * l * D := by grind
    rw [e1, e2] at h
    exact Nat.le_of_add_le_add_left h
  have h2 : (53 * p + 2916) * B ≤ p * p * D := by
    refine Nat.le_of_mul_le_mul_left ?_ hll
    have a1 : l * l * ((53 * p + 2916) * B) ≤ p * p * ((53 * l + 2916) * B) := by
      have e1 : l * l * ((53 * p + 2916) * B) = (53 * (l * p) * l + 2916 * (l * l)) * B := by grind
      have e2 : p * p * ((53 * l + 2916) * B) = (53 * (l * p) * p + 2916 * (p * p)) * B := by grind
      rw [e1, e2]
      refine Nat.mul_le_mul (Nat.add_le_add (Nat.mul_le_mul (Nat.le_refl _) hl) (Nat.mul_le_mul (Nat.le_refl _) (Nat.mul_le_mul hl hl))) (Nat.le_refl _)
    have a2 : p * p * ((53 * l + 2916) * B) ≤ p * p * (l * l * D) := Nat.mul_le_mul (Nat.le_refl _) h1
    have e3 : p * p * (l * l * D) = l * l * (p * p * D) := by grind
    rw [e3] at a2
    exact Nat.le_trans a1 a2
  have e1 : (p * (p + 53) + 2916) * B = p * p * B + (53 * p + 2916) * B := by grind
  have e2 : p * p * (B + D) = p * p * B + p * p * D := by grind
  rw [e1, e2]
  exact Nat.add_le_add_left h2 _
/-- the budget's rules -/
theorem sm_Bu_n {p P p' : Nat} (h1 : 1 ≤ p') (h2 : p' < p) (h3 : p ≤ 6000) (h4 : p ≤ P) (h5 : P ≤ 1000000) (h : p + p' ≤ P) : (p + 53) * sm_Bu p P ≤ p * sm_Bu p' p := by
  refine sm_mono1 (sm_lo_1 (sm_L p)) (sm_L_lo (by omega)) ?_
  have hl' := sm_L_lo h1
  have hl := sm_L_lo (p := p) (by omega)
  have hh := sm_L_hi (p := p) (by omega)
  have hhP := sm_L_hi (p := P) (by omega)
  exact (sm_c1_v (sm_L_1 (by omega)) (sm_L_i h3) (sm_L_le h4) (sm_L_j h5) (sm_L_1 h1) (sm_L_le (by omega)) (by omega)).1 (by omega)
theorem sm_Bu_a {p P p' : Nat} (h1 : 1 ≤ p') (h2 : p' < p) (h3 : p ≤ 6000) (h4 : p ≤ P) (h5 : P ≤ 1000000) (h : 2 * p ≤ P) : (p * (p + 53) + 2916) * sm_Bu p P ≤ p * p * sm_Bu p' p := by
  refine sm_mono2 (sm_lo_1 (sm_L p)) (sm_L_lo (by omega)) ?_
  have hl' := sm_L_lo h1
  have hl := sm_L_lo (p := p) (by omega)
  have hh := sm_L_hi (p := p) (by omega)
  have hhP := sm_L_hi (p := P) (by omega)
  exact (sm_c1_v (sm_L_1 (by omega)) (sm_L_i h3) (sm_L_le h4) (sm_L_j h5) (sm_L_1 h1) (sm_L_le (by omega)) (by omega)).2 (by omega)
theorem sm_Bu_e {p P : Nat} (h1 : 1 ≤ p) (h3 : p ≤ 6000) (h4 : p ≤ P) (h5 : P ≤ 1000000) : 54 * sm_Bu p P ≤ 9223372036854775807 ∧ 15000000 ≤ sm_Bu p P :=
  sm_c2_u (sm_L_1 h1) (sm_L_i h3) (sm_L_le h4) (sm_L_j h5)
end
section
/-! the rounds at the second place -/
def sm_B1 (F : Nat → Nat → Int) : Prop := F 0 0 ≠ 0 ∧ (F 0 0).natAbs ≤ 9 ∧ sm_clean 0 F ∧ sm_divs 0 F ∧ (F 0 3).natAbs ≤ 15000000
def sm_W1 (F : Nat → Nat → Int) (W : Nat) : Prop :=
  (F 1 3).natAbs ≤ W ∧ (F 2 3).natAbs ≤ W ∧ (sm_m2 F 1 2 1 3).natAbs ≤ 54 * W ∧ (sm_m2 F 1 2 2 3).natAbs ≤ 54 * W ∧ (sm_m2 F 1 2 1 2).natAbs ≤ 2916
def sm_cap (P : Nat) (F : Nat → Nat → Int) : Prop := 2 * (F 1 1).natAbs ≤ P ∨ ∃ e, (e = F 1 2 ∨ e = F 2 1) ∧ (F 1 1).natAbs < e.natAbs ∧ e.natAbs ≤ P
def sm_en1 (M : Nat) (F : Nat → Nat → Int) : Prop := (F 1 1).natAbs ≤ M ∧ (F 1 2).natAbs ≤ M ∧ (F 2 1).natAbs ≤ M ∧ (F 2 2).natAbs ≤ M
def sm_Q1 (F : Nat → Nat → Int) : Prop :=
  sm_B1 F ∧ F 1 1 ≠ 0 ∧ (F 1 1).natAbs ≤ 6000 ∧ sm_en1 20000 F ∧ ∃ P, (F 1 1).natAbs ≤ P ∧ P ≤ 1000000 ∧ sm_cap P F ∧ sm_W1 F (sm_Bu (F 1 1).natAbs P)
theorem sm_i12 {i : Nat} (h1 : 0 < i) (h : i < 3) : i = 1 ∨ i = 2 := by omega
theorem sm_B1_aR {F : Nat → Nat → Int} (h : sm_B1 F) {a b : Nat} (ha : 0 < a) (ha' : a < 3) (hb : 0 < b) (hb' : b < 3) (t : Int) : sm_B1 (sm_aR a b t F) := by
  obtain ⟨h1, h2, h3, h4, h5⟩ := h
  have e0 : ∀ c, sm_aR a b t F 0 c = F 0 c := fun c => by unfold sm_aR; rw [if_neg (by omega)]
  refine ⟨by rw [e0]; exact h1, by rw [e0]; exact h2, fun i p q => ⟨?_, by rw [e0]; exact (h3 i p q).2⟩, fun r p q c p' q' => ?_, by rw [e0]; exact h5⟩
  · unfold sm_aR; split
    · rw [(h3 i p q).1, (h3 b hb hb').1]; omega
    · exact (h3 i p q).1
  · rw [e0]; unfold sm_aR; split
    · exact Int.dvd_add (h4 r p q c p' q') (sm_dl t (h4 b hb hb' c p' q'))
    · exact h4 r p q c p' q'
theorem sm_B1_aC {F : Nat → Nat → Int} (h : sm_B1 F) {a b : Nat} (ha : 0 < a) (ha' : a < 3) (hb : 0 < b) (hb' : b < 3) (t : Int) : sm_B1 (sm_aC a b t F) := by
  obtain ⟨h1, h2, h3, h4, h5⟩ := h
  have e0 : ∀ r, sm_aC a b t F r 0 = F r 0 := fun r => by unfold sm_aC; rw [if_neg (by omega)]
  have e3 : ∀ r, sm_aC a b t F r 3 = F r 3 := fun r => by unfold sm_aC; rw [if_neg (by omega)]
  refine ⟨by rw [e0]; exact h1, by rw [e0]; exact h2, fun i p q => ⟨by rw [e0]; exact (h3 i p q).1, ?_⟩, fun r p q c p' q' => ?_, by rw [e3]; exact h5⟩
  · unfold sm_aC; split
    · rw [(h3 i p q).2, (h3 b hb hb').2]; omega
    · exact (h3 i p q).2
  · rw [e0]; unfold sm_aC; split
    · exact Int.dvd_add (h4 r p q c p' q') (sm_dl t (h4 r p q b hb hb'))
    · exact h4 r p q c p' q'
theorem sm_sg0 {a b : Nat} (ha : 0 < a) (hb : 0 < b) : sm_sg a b 0 = 0 := by unfold sm_sg; rw [if_neg (by omega), if_neg (by omega)]
theorem sm_sgp {a b i : Nat} (ha : 0 < a) (hb : 0 < b) (hi : 0 < i) : 0 < sm_sg a b i := by unfold sm_sg; split; exact hb; split; exact ha; exact hi
theorem sm_B1_zz {F : Nat → Nat → Int} (h : sm_B1 F) {row col : Nat} (h1 : 0 < row) (h2 : row < 3) (h3 : 0 < col) (h4 : col < 3) : sm_B1 (sm_zz 1 row col F) := by
  obtain ⟨q1, q2, q3, q4, q5⟩ := h
  have e : ∀ r c, sm_zz 1 row col F r c = F (sm_sg row 1 r) (sm_sg col 1 c) := fun _ _ => rfl
  have r0 : sm_sg row 1 0 = 0 := sm_sg0 h1 (by omega)
  have c0 : sm_sg col 1 0 = 0 := sm_sg0 h3 (by omega)
  have c3 : sm_sg col 1 3 = 3 := sm_sg_3 h4 (by omega)
  refine ⟨by rw [e, r0, c0]; exact q1, by rw [e, r0, c0]; exact q2, fun i p q => ⟨?_, ?_⟩, fun r p q c p' q' => ?_, by rw [e, r0, c3]; exact q5⟩
  · rw [e, c0]; exact (q3 _ (sm_sgp h1 (by omega) p) (sm_sg_lt h2 (by omega) q)).1
  · rw [e, r0]; exact (q3 _ (sm_sgp h3 (by omega) p) (sm_sg_lt h4 (by omega) q)).2
  · rw [e, e, r0, c0]; exact q4 _ (sm_sgp h1 (by omega) p) (sm_sg_lt h2 (by omega) q) _ (sm_sgp h3 (by omega) p') (sm_sg_lt h4 (by omega) q')
theorem sm_W1_zz {F : Nat → Nat → Int} {W : Nat} (h : sm_W1 F W) {row col : Nat} (h1 : 0 < row) (h2 : row < 3) (h3 : 0 < col) (h4 : col < 3) : sm_W1 (sm_zz 1 row col F) W := by
  obtain ⟨q1, q2, q3, q4, q5⟩ := h
  have n1 : ∀ j k, sm_m2 F 2 1 j k = - sm_m2 F 1 2 j k := fun j k => by unfold sm_m2; grind
  have n2 : ∀ i j, sm_m2 F i j 2 1 = - sm_m2 F i j 1 2 := fun i j => by unfold sm_m2; grind
  rcases sm_i12 h1 h2 with rfl | rfl <;> rcases sm_i12 h3 h4 with rfl | rfl
  · exact ⟨q1, q2, q3, q4, q5⟩
  · refine ⟨q1, q2, q4, q3, ?_⟩
    show (sm_m2 F 1 2 2 1).natAbs ≤ 2916
    rw [n2, Int.natAbs_neg]; exact q5
  · refine ⟨q2, q1, ?_, ?_, ?_⟩
    · show (sm_m2 F 2 1 1 3).natAbs ≤ _; rw [n1, Int.natAbs_neg]; exact q3
    · show (sm_m2 F 2 1 2 3).natAbs ≤ _; rw [n1, Int.natAbs_neg]; exact q4
    · show (sm_m2 F 2 1 1 2).natAbs ≤ _; rw [n1, Int.natAbs_neg]; exact q5
  · refine ⟨q2, q1, ?_, ?_, ?_⟩
    · show (sm_m2 F 2 1 2 3).natAbs ≤ _; rw [n1, Int.natAbs_neg]; exact q4
    · show (sm_m2 F 2 1 1 3).natAbs ≤ _; rw [n1, Int.natAbs_neg]; exact q3
    · show (sm_m2 F 2 1 2 1).natAbs ≤ _; rw [n1, Int.natAbs_neg, n2, Int.natAbs_neg]; exact q5
theorem sm_rd1 (F : Nat → Nat → Int) : sm_rd 1 F = sm_aC 2 1 (-((F 1 2).tdiv (F 1 1))) (sm_aR 2 1 (-((F 2 1).tdiv (F 1 1))) F) := rfl
theorem sm_add1 (F : Nat → Nat → Int) : sm_add 1 2 F = sm_aC 2 1 (-((F 1 2 + 1 * F 2 2).tdiv (F 1 1 + 1 * F 2 1))) (sm_aR 1 2 1 F) := rfl
theorem sm_g11 (F : Nat → Nat → Int) : sm_rd 1 F 1 1 = F 1 1 := rfl
theorem sm_g12 (F : Nat → Nat → Int) : sm_rd 1 F 1 2 = (F 1 2).tmod (F 1 1) := sm_tm _ _
theorem sm_g21 (F : Nat → Nat → Int) : sm_rd 1 F 2 1 = (F 2 1).tmod (F 1 1) := sm_tm _ _
/-- row and column reduced by the pivot; what the round leaves unchanged -/
def sm_n1 (G : Nat → Nat → Int) : Prop := (G 1 2).natAbs < (G 1 1).natAbs ∧ (G 2 1).natAbs < (G 1 1).natAbs
theorem sm_inv1 (F : Nat → Nat → Int) : sm_m2 (sm_rd 1 F) 1 2 1 3 = sm_m2 F 1 2 1 3 ∧ sm_m2 (sm_rd 1 F) 1 2 1 2 = sm_m2 F 1 2 1 2 ∧ sm_rd 1 F 1 3 = F 1 3 := by
  rw [sm_rd1]
  refine ⟨?_, ?_, rfl⟩
  · rw [sm_m2_aC, if_neg (by omega), if_neg (by omega), sm_m2_aR, if_neg (by omega), if_pos rfl]
    have : sm_m2 F 1 1 1 3 = 0 := by unfold sm_m2; grind
    rw [this]; omega
  · rw [sm_m2_aC, if_neg (by omega), if_pos rfl, sm_m2_aR, if_neg (by omega), if_pos rfl]
    have e1 : sm_m2 F 1 1 1 2 = 0 := by unfold sm_m2; grind
    have e2 : sm_m2 (sm_aR 2 1 (-(F 2 1).tdiv (F 1 1)) F) 1 2 1 1 = 0 := by unfold sm_m2; grind
    rw [e1, e2]; omega
theorem sm_n1_rd {F : Nat → Nat → Int} (hp : F 1 1 ≠ 0) : sm_n1 (sm_rd 1 F) := by
  unfold sm_n1; rw [sm_g12, sm_g21, sm_g11]; exact ⟨sm_tmlt _ hp, sm_tmlt _ hp⟩
/-- the bound of the corner -/
theorem sm_en1_n {G : Nat → Nat → Int} (hn : sm_n1 G) (hp : G 1 1 ≠ 0) (h6 : (G 1 1).natAbs ≤ 6000) (hd : (sm_m2 G 1 2 1 2).natAbs ≤ 2916) : sm_en1 20000 G := by
  refine ⟨by omega, by have := hn.1; omega, by have := hn.2; omega, ?_⟩
  have h1 : 1 * 14000 ≤ (G 1 1).natAbs * 14000 := Nat.mul_le_mul (by omega) (Nat.le_refl _)
  have h2 : ((G 1 1).natAbs - 1) * ((G 1 1).natAbs - 1) ≤ (G 1 1).natAbs * 6000 := Nat.mul_le_mul (by omega) (by omega)
  refine sm_cn (p := G 1 1) (b := 2916 + ((G 1 1).natAbs - 1) * ((G 1 1).natAbs - 1)) rfl (by omega) ?_ (by omega)
  have e : G 1 1 * G 2 2 = sm_m2 G 1 2 1 2 + G 1 2 * G 2 1 := by unfold sm_m2; grind
  rw [e]; exact sm_n3 hd (sm_nmul (by have := hn.1; omega) (by have := hn.2; omega))
/-- one round without an added row -/
theorem sm_W1_rd {F : Nat → Nat → Int} {W W' P : Nat} (hP : (F 1 1).natAbs = P) (h0 : 0 < P) (h : sm_W1 F W) (h1 : (P + 53) * W ≤ P * W') : sm_W1 (sm_rd 1 F) W' := by
  obtain ⟨q1, q2, q3, q4, q5⟩ := h
  obtain ⟨i1, i2, i3⟩ := sm_inv1 F
  have hn := sm_n1_rd (F := F) (by omega)
  have hW : W ≤ W' := by
    have : P * W ≤ P * W' := Nat.le_trans (Nat.mul_le_mul (by omega) (Nat.le_refl _)) h1
    exact Nat.le_of_mul_le_mul_left this h0
  have hr : (sm_rd 1 F 1 2).natAbs ≤ P - 1 := by have := hn.1; rw [sm_g11] at this; omega
  have hs : (sm_rd 1 F 2 1).natAbs ≤ P - 1 := by have := hn.2; rw [sm_g11] at this; omega
  have hPW : (P - 1) * W + W = P * W := by
    obtain ⟨k, rfl⟩ : ∃ k, P = k + 1 := ⟨P - 1, by omega⟩
    show k * W + W = (k + 1) * W; grind
  have h53 : (P + 53) * W = P * W + 53 * W := by grind
  refine ⟨by rw [i3]; omega, ?_, by rw [i1]; omega, ?_, by rw [i2]; exact q5⟩
  · refine sm_cn (p := sm_rd 1 F 1 1) (b := 54 * W + W * (P - 1)) hP h0 ?_ (by rw [Nat.mul_comm W]; omega)
    have e : sm_rd 1 F 1 1 * sm_rd 1 F 2 3 = sm_m2 (sm_rd 1 F) 1 2 1 3 + sm_rd 1 F 1 3 * sm_rd 1 F 2 1 := by unfold sm_m2; grind
    rw [e, i1, i3]; exact sm_n3 q3 (sm_nmul q1 hs)
  · have hb : (P - 1) * (54 * W) + W * 2916 ≤ P * (54 * W') := by
      have e1 : (P - 1) * (54 * W) = 54 * ((P - 1) * W) := by grind
      have e2 : P * (54 * W') = 54 * (P * W') := by grind
      rw [e1, e2]; omega
    refine sm_cn (p := sm_rd 1 F 1 1) (b := (P - 1) * (54 * W) + W * 2916) hP h0 ?_ hb
    have e : sm_rd 1 F 1 1 * sm_m2 (sm_rd 1 F) 1 2 2 3 = sm_rd 1 F 1 2 * sm_m2 (sm_rd 1 F) 1 2 1 3 - sm_rd 1 F 1 3 * sm_m2 (sm_rd 1 F) 1 2 1 2 := by unfold sm_m2; grind
    rw [e, i1, i2, i3]; exact sm_n2 (sm_nmul hr q3) (sm_nmul q1 q5)
/-! the added row -/
theorem sm_h11 {G : Nat → Nat → Int} (hc : sm_clean 1 G) : sm_add 1 2 G 1 1 = G 1 1 := by
  show G 1 1 + 1 * G 2 1 = G 1 1; rw [(hc 2 (by omega) (by omega)).1]; omega
theorem sm_h12 {G : Nat → Nat → Int} (hc : sm_clean 1 G) : sm_add 1 2 G 1 2 = (G 2 2).tmod (G 1 1) := by
  have e : sm_add 1 2 G 1 2 = (G 1 2 + 1 * G 2 2) + -((G 1 2 + 1 * G 2 2).tdiv (G 1 1 + 1 * G 2 1)) * (G 1 1 + 1 * G 2 1) := rfl
  rw [e, sm_tm, (hc 2 (by omega) (by omega)).1, (hc 2 (by omega) (by omega)).2]
  congr 1 <;> omega
theorem sm_h21 {G : Nat → Nat → Int} (hc : sm_clean 1 G) : sm_add 1 2 G 2 1 = 0 := (hc 2 (by omega) (by omega)).1
theorem sm_h22 {G : Nat → Nat → Int} (hc : sm_clean 1 G) : sm_add 1 2 G 2 2 = G 2 2 := by
  have e : sm_add 1 2 G 2 2 = G 2 2 + -((G 1 2 + 1 * G 2 2).tdiv (G 1 1 + 1 * G 2 1)) * G 2 1 := rfl
  rw [e, (hc 2 (by omega) (by omega)).1]; omega
theorem sm_W1_ad {F : Nat → Nat → Int} {W W' P : Nat} (hP : (F 1 1).natAbs = P) (h0 : 0 < P) (hP6 : P ≤ 6000) (hc : sm_clean 1 (sm_rd 1 F)) (h : sm_W1 F W) (h1 : (P * (P + 53) + 2916) * W ≤ P * P * W') (hP2 : P ≤ 2916) :
    sm_W1 (sm_add 1 2 (sm_rd 1 F)) W' ∧ sm_n1 (sm_add 1 2 (sm_rd 1 F)) := by
  obtain ⟨q1, q2, q3, q4, q5⟩ := h
  obtain ⟨i1, i2, i3⟩ := sm_inv1 F
  have hp : F 1 1 ≠ 0 := by omega
  have hn : sm_n1 (sm_add 1 2 (sm_rd 1 F)) := by
    unfold sm_n1; rw [sm_h11 hc, sm_h12 hc, sm_h21 hc, sm_g11]; exact ⟨sm_tmlt _ hp, by omega⟩
  refine ⟨?_, hn⟩
  have z21 := (hc 2 (by omega) (by omega)).1
  have z12 := (hc 2 (by omega) (by omega)).2
  generalize hG : sm_rd 1 F = G at *
  have g11 : G 1 1 = F 1 1 := by rw [← hG]; rfl
  have a13 : sm_add 1 2 G 1 3 = G 1 3 + G 2 3 := by show G 1 3 + 1 * G 2 3 = _; omega
  have a23 : sm_add 1 2 G 2 3 = G 2 3 := rfl
  have h11 := sm_h11 hc
  have h21 := sm_h21 hc
  have h22 := sm_h22 hc
  have hr : (sm_add 1 2 G 1 2).natAbs ≤ P - 1 := by have := hn.1; rw [h11, g11] at this; omega
  have ey : G 1 1 * G 2 3 = sm_m2 F 1 2 1 3 := by rw [← i1]; unfold sm_m2; rw [z21]; grind
  have ed : G 1 1 * G 2 2 = sm_m2 F 1 2 1 2 := by rw [← i2]; unfold sm_m2; rw [z12]; grind
  -- bounds with the pivot multiplied in
  have by' : P * (G 2 3).natAbs ≤ 54 * W := by
    have : (G 1 1 * G 2 3).natAbs ≤ 54 * W := by rw [ey]; exact q3
    rw [Int.natAbs_mul, g11, hP] at this; exact this
  have bx : P * (G 1 3 + G 2 3).natAbs ≤ P * W + 54 * W := by
    have h2 : (G 1 3 + G 2 3).natAbs ≤ W + (G 2 3).natAbs := by rw [i3]; exact sm_n3 q1 (Nat.le_refl _)
    have h3 := Nat.mul_le_mul (Nat.le_refl P) h2
    rw [Nat.mul_add] at h3; omega
  have hPP : 0 < P * P := Nat.mul_pos h0 h0
  have hW0 : P * W + 54 * W ≤ P * W' := by
    refine Nat.le_of_mul_le_mul_left ?_ h0
    have e1 : P * (P * W') = P * P * W' := by grind
    have e2 : P * (P * W + 54 * W) = (P * (P + 53) + P) * W := by grind
    rw [e1, e2]
    exact Nat.le_trans (Nat.mul_le_mul (by omega) (Nat.le_refl _)) h1
  refine ⟨?_, ?_, ?_, ?_, ?_⟩
  · rw [a13]; exact Nat.le_of_mul_le_mul_left (Nat.le_trans bx hW0) h0
  · rw [a23]; exact Nat.le_of_mul_le_mul_left (Nat.le_trans by' (by omega)) h0
  · have e : sm_m2 (sm_add 1 2 G) 1 2 1 3 = sm_m2 F 1 2 1 3 := by
      rw [← ey]; unfold sm_m2; rw [h11, h21, a23]; grind
    rw [e]
    have : W ≤ W' := Nat.le_of_mul_le_mul_left (Nat.le_trans (by omega : P * W ≤ P * W + 54 * W) hW0) h0
    omega
  · refine Nat.le_of_mul_le_mul_left (c := P * P) ?_ hPP
    have e : G 1 1 * sm_m2 (sm_add 1 2 G) 1 2 2 3 = sm_add 1 2 G 1 2 * sm_m2 F 1 2 1 3 - (G 1 3 + G 2 3) * sm_m2 F 1 2 1 2 := by
      rw [← ey, ← ed]; unfold sm_m2; rw [a13, a23, h22]; grind
    have b1 : (G 1 1 * sm_m2 (sm_add 1 2 G) 1 2 2 3).natAbs ≤ (P - 1) * (54 * W) + (G 1 3 + G 2 3).natAbs * 2916 := by
      rw [e]; exact sm_n2 (sm_nmul hr q3) (sm_nmul (Nat.le_refl _) q5)
    rw [Int.natAbs_mul, g11, hP] at b1
    have b2 := Nat.mul_le_mul (Nat.le_refl P) b1
    have e1 : P * (P * (sm_m2 (sm_add 1 2 G) 1 2 2 3).natAbs) = P * P * (sm_m2 (sm_add 1 2 G) 1 2 2 3).natAbs := by grind
    rw [e1] at b2
    refine Nat.le_trans b2 ?_
    have e2 : P * ((P - 1) * (54 * W) + (G 1 3 + G 2 3).natAbs * 2916) = P * ((P - 1) * (54 * W)) + 2916 * (P * (G 1 3 + G 2 3).natAbs) := by grind
    rw [e2]
    have b3 : 2916 * (P * (G 1 3 + G 2 3).natAbs) ≤ 2916 * (P * W + 54 * W) := Nat.mul_le_mul (Nat.le_refl _) bx
    refine Nat.le_trans (Nat.add_le_add_left b3 _) ?_
    have e3 : P * P * (54 * W') = 54 * (P * P * W') := by grind
    rw [e3]
    refine Nat.le_trans ?_ (Nat.mul_le_mul (Nat.le_refl 54) h1)
    obtain ⟨k, rfl⟩ : ∃ k, P = k + 1 := ⟨P - 1, by omega⟩
    show (k + 1) * (k * (54 * W)) + 2916 * ((k + 1) * W + 54 * W) ≤ 54 * (((k + 1) * (k + 1 + 53) + 2916) * W)
    have e4 : 54 * (((k + 1) * (k + 1 + 53) + 2916) * W) = (k + 1) * (k * (54 * W)) + 2916 * ((k + 1) * W + 54 * W) := by grind
    omega
  · have e : sm_m2 (sm_add 1 2 G) 1 2 1 2 = sm_m2 F 1 2 1 2 := by
      rw [← ed]; unfold sm_m2; rw [h11, h21, h22]; grind
    rw [e]; exact q5
/-- the next pivot and its neighbour -/
def sm_z1 (G : Nat → Nat → Int) : Prop := G 1 2 ≠ 0 ∨ G 2 1 ≠ 0
theorem sm_nxt1 {G : Nat → Nat → Int} (hn : sm_n1 G) (hz : sm_z1 G) {row col : Nat} (hb : sm_brg 1 G row col) :
    (sm_zz 1 row col G 1 1 = G row col) ∧ (G row col).natAbs < (G 1 1).natAbs ∧ sm_cap (G 1 1).natAbs (sm_zz 1 row col G) := by
  obtain ⟨h1, h2, h3, h4, hne, hall⟩ := hb
  have hlt : (G row col).natAbs < (G 1 1).natAbs := by
    rcases hz with z | z
    · exact Nat.lt_of_le_of_lt (hall 1 2 (by omega) (by omega) (by omega) (by omega) z).1 hn.1
    · exact Nat.lt_of_le_of_lt (hall 2 1 (by omega) (by omega) (by omega) (by omega) z).1 hn.2
  rcases sm_i12 h1 h2 with rfl | rfl <;> rcases sm_i12 h3 h4 with rfl | rfl
  · exact absurd hlt (Nat.lt_irrefl _)
  · exact ⟨rfl, hlt, Or.inr ⟨G 1 1, Or.inl rfl, hlt, Nat.le_refl _⟩⟩
  · exact ⟨rfl, hlt, Or.inr ⟨G 1 1, Or.inr rfl, hlt, Nat.le_refl _⟩⟩
  · refine ⟨rfl, hlt, ?_⟩
    rcases hz with z | z
    · exact Or.inr ⟨G 1 2, Or.inr rfl, (hall 1 2 (by omega) (by omega) (by omega) (by omega) z).2 (Or.inl (by omega)), Nat.le_of_lt hn.1⟩
    · exact Or.inr ⟨G 2 1, Or.inl rfl, (hall 2 1 (by omega) (by omega) (by omega) (by omega) z).2 (Or.inr ⟨rfl, by omega⟩), Nat.le_of_lt hn.2⟩
theorem sm_modle {e p : Nat} (h : p < e) (h0 : 0 < p) : e % p + p ≤ e := by
  have h1 := Nat.div_add_mod e p
  have h2 : 1 ≤ e / p := Nat.div_pos (by omega) h0
  have h3 : p * 1 ≤ p * (e / p) := Nat.mul_le_mul (Nat.le_refl _) h2
  omega
theorem sm_mod0 {e p : Nat} (h : p < e) (h0 : 0 < p) (hm : e % p = 0) : 2 * p ≤ e := by
  obtain ⟨k, rfl⟩ := Nat.dvd_of_mod_eq_zero hm
  have : 2 ≤ k := by
    rcases Nat.lt_or_ge k 2 with z | z
    · have : p * k ≤ p * 1 := Nat.mul_le_mul (Nat.le_refl _) (by omega)
      omega
    · exact z
  have := Nat.mul_le_mul (Nat.le_refl p) this
  omega
/-- a neighbour within P: the next pivot is P - p at most -/
theorem sm_cap_n {F : Nat → Nat → Int} {P : Nat} (hp : F 1 1 ≠ 0) (hc : sm_cap P F) {row col : Nat} (hb : sm_brg 1 (sm_rd 1 F) row col) (hlt : (sm_rd 1 F row col).natAbs < (F 1 1).natAbs) :
    (F 1 1).natAbs + (sm_rd 1 F row col).natAbs ≤ P := by
  obtain ⟨-, -, -, -, -, hall⟩ := hb
  rcases hc with h | ⟨e, he, h1, h2⟩
  · omega
  · have key : e.natAbs % (F 1 1).natAbs = 0 ∨ (sm_rd 1 F row col).natAbs ≤ e.natAbs % (F 1 1).natAbs := by
      rcases he with he | he
      · by_cases z : sm_rd 1 F 1 2 = 0
        · left; rw [sm_g12, ← he] at z; rw [← Int.natAbs_tmod, z]; rfl
        · right; have := (hall 1 2 (by omega) (by omega) (by omega) (by omega) z).1; rw [sm_g12, ← he, Int.natAbs_tmod] at this; exact this
      · by_cases z : sm_rd 1 F 2 1 = 0
        · left; rw [sm_g21, ← he] at z; rw [← Int.natAbs_tmod, z]; rfl
        · right; have := (hall 2 1 (by omega) (by omega) (by omega) (by omega) z).1; rw [sm_g21, ← he, Int.natAbs_tmod] at this; exact this
    rcases key with z | z
    · have := sm_mod0 h1 (by omega) z; omega
    · have := sm_modle h1 (by omega); omega
theorem sm_cap_a {F : Nat → Nat → Int} {P : Nat} (hp : F 1 1 ≠ 0) (hc : sm_cap P F) (hcl : sm_clean 1 (sm_rd 1 F)) : 2 * (F 1 1).natAbs ≤ P := by
  rcases hc with h | ⟨e, he, h1, h2⟩
  · exact h
  · have key : e.natAbs % (F 1 1).natAbs = 0 := by
      have hc2 := hcl 2 (by omega) (by omega)
      rcases he with he | he
      · have z := hc2.2; rw [sm_g12, ← he] at z; rw [← Int.natAbs_tmod, z]; rfl
      · have z := hc2.1; rw [sm_g21, ← he] at z; rw [← Int.natAbs_tmod, z]; rfl
    have := sm_mod0 h1 (by omega) key; omega
/-- the state when the second place is done -/
def sm_N1 (F : Nat → Nat → Int) : Prop :=
  sm_B1 F ∧ F 1 1 ≠ 0 ∧ sm_en1 20000 F ∧ sm_clean 1 F ∧ sm_divs 1 F ∧ (F 1 3).natAbs ≤ 9223372036854775807 ∧ (F 2 3).natAbs ≤ 9223372036854775807
theorem sm_rng1 {F : Nat → Nat → Int} (h : sm_en1 20000 F) : sm_rng 1 F := by
  intro r c h1 h2 h3 h4
  obtain ⟨a, b, d, e⟩ := h
  rcases sm_i12 h1 h2 with rfl | rfl <;> rcases sm_i12 h3 h4 with rfl | rfl <;> omega
theorem sm_step1 : sm_Step 1 sm_Q1 sm_N1 := by
  rintro F ⟨hB, hp, h6, hen, P, hP1, hP2, hcap, hW⟩
  have hB2 : sm_B1 (sm_rd 1 F) := by
    rw [sm_rd1]; exact sm_B1_aC (sm_B1_aR hB (by omega) (by omega) (by omega) (by omega) _) (by omega) (by omega) (by omega) (by omega) _
  have hn := sm_n1_rd hp
  have hd2 : (sm_m2 (sm_rd 1 F) 1 2 1 2).natAbs ≤ 2916 := by rw [(sm_inv1 F).2.1]; exact hW.2.2.2.2
  have hen2 := sm_en1_n hn hp h6 hd2
  refine ⟨hp, sm_rng1 hen, sm_rng1 hen2, ?_, ?_, ?_⟩
  · intro hc hd
    have hBe := sm_Bu_e (p := (F 1 1).natAbs) (by omega) h6 hP1 hP2
    refine ⟨hB2, hp, hen2, hc, hd, ?_, ?_⟩
    · rw [(sm_inv1 F).2.2]; have := hW.1; omega
    · have h1 : 1 * (54 * sm_Bu (F 1 1).natAbs P) ≤ (F 1 1).natAbs * (54 * sm_Bu (F 1 1).natAbs P) := Nat.mul_le_mul (by omega) (Nat.le_refl _)
      refine Nat.le_trans (sm_cn (p := sm_rd 1 F 1 1) (a := 54 * sm_Bu (F 1 1).natAbs P) (b := 54 * sm_Bu (F 1 1).natAbs P) rfl (by rw [sm_g11]; omega) ?_ (by rw [sm_g11]; omega)) hBe.1
      have e : sm_rd 1 F 1 1 * sm_rd 1 F 2 3 = sm_m2 (sm_rd 1 F) 1 2 1 3 := by unfold sm_m2; rw [(hc 2 (by omega) (by omega)).1]; grind
      rw [e, (sm_inv1 F).1]; exact hW.2.2.1
  · intro hc row col hb
    have hz : sm_z1 (sm_rd 1 F) := by
      refine Classical.byContradiction fun z => hc fun i h1 h2 => ?_
      have : i = 2 := by omega
      subst this
      exact ⟨Classical.byContradiction fun q => z (Or.inr q), Classical.byContradiction fun q => z (Or.inl q)⟩
    obtain ⟨e11, hlt, hcap2⟩ := sm_nxt1 hn hz hb
    rw [sm_g11] at hlt hcap2
    have hpos : 1 ≤ (sm_rd 1 F row col).natAbs := by have := hb.2.2.2.2.1; omega
    have hsum := sm_cap_n hp hcap hb hlt
    have hb1 := hb.1
    have hb3 := hb.2.2.1
    refine ⟨⟨sm_B1_zz hB2 (by omega) hb.2.1 (by omega) hb.2.2.2.1, by rw [e11]; exact hb.2.2.2.2.1, by rw [e11]; omega, ?_, (F 1 1).natAbs, by rw [e11]; omega, by omega, hcap2, ?_⟩, hlt⟩
    · obtain ⟨a, b, c, d⟩ := hen2
      rcases sm_i12 hb.1 hb.2.1 with rfl | rfl <;> rcases sm_i12 hb.2.2.1 hb.2.2.2.1 with rfl | rfl
      · exact ⟨a, b, c, d⟩
      · exact ⟨b, a, d, c⟩
      · exact ⟨c, d, a, b⟩
      · exact ⟨d, c, b, a⟩
    · rw [e11]
      exact sm_W1_zz (sm_W1_rd rfl (by omega) hW (sm_Bu_n hpos hlt h6 hP1 hP2 hsum)) (by omega) hb.2.1 (by omega) hb.2.2.2.1
  · intro hc i hf
    have hi : i = 2 := by have := hf.1; have := hf.2.1; omega
    subst hi
    have h2p := sm_cap_a hp hcap hc
    have hc2 := hc 2 (by omega) (by omega)
    have hnd : ¬ F 1 1 ∣ sm_rd 1 F 2 2 := fun z => hf.2.2.1 fun c h1 h2 => by
      have : c = 2 := by omega
      subst this; exact z
    have hP29 : (F 1 1).natAbs ≤ 2916 := by
      have h0 : sm_rd 1 F 2 2 ≠ 0 := fun z => hnd (by rw [z]; exact Int.dvd_zero _)
      have e : sm_m2 (sm_rd 1 F) 1 2 1 2 = F 1 1 * sm_rd 1 F 2 2 := by unfold sm_m2; rw [hc2.2, sm_g11]; grind
      rw [e, Int.natAbs_mul] at hd2
      have : (F 1 1).natAbs * 1 ≤ (F 1 1).natAbs * (sm_rd 1 F 2 2).natAbs := Nat.mul_le_mul (Nat.le_refl _) (by omega)
      omega
    have hB3 : sm_B1 (sm_add 1 2 (sm_rd 1 F)) := by
      rw [sm_add1]; exact sm_B1_aC (sm_B1_aR hB2 (by omega) (by omega) (by omega) (by omega) _) (by omega) (by omega) (by omega) (by omega) _
    have hW3 := fun (W' : Nat) h => (sm_W1_ad (W' := W') rfl (by omega) h6 hc hW h hP29)
    have e11a : sm_add 1 2 (sm_rd 1 F) 1 1 = F 1 1 := sm_h11 hc
    have hn3 : sm_n1 (sm_add 1 2 (sm_rd 1 F)) := by
      unfold sm_n1; rw [e11a, sm_h12 hc, sm_h21 hc, sm_g11]; exact ⟨sm_tmlt _ hp, by omega⟩
    have hz : sm_z1 (sm_add 1 2 (sm_rd 1 F)) := by
      refine Or.inl fun z => hnd ?_
      rw [sm_h12 hc, sm_g11] at z
      exact Int.dvd_of_tmod_eq_zero z
    have hd3 : (sm_m2 (sm_add 1 2 (sm_rd 1 F)) 1 2 1 2).natAbs ≤ 2916 := by
      have e : sm_m2 (sm_add 1 2 (sm_rd 1 F)) 1 2 1 2 = sm_m2 (sm_rd 1 F) 1 2 1 2 := by
        unfold sm_m2; rw [e11a, sm_h21 hc, sm_h22 hc, hc2.1, sm_g11]; grind
      rw [e]; exact hd2
    have hen3 := sm_en1_n hn3 (by rw [e11a]; exact hp) (by rw [e11a]; exact h6) hd3
    refine ⟨sm_rng1 hen3, fun row col hb => ?_⟩
    obtain ⟨e11, hlt, hcap2⟩ := sm_nxt1 hn3 hz hb
    rw [e11a] at hlt hcap2
    have hpos : 1 ≤ (sm_add 1 2 (sm_rd 1 F) row col).natAbs := by have := hb.2.2.2.2.1; omega
    have hb1 := hb.1
    have hb3 := hb.2.2.1
    refine ⟨⟨sm_B1_zz hB3 (by omega) hb.2.1 (by omega) hb.2.2.2.1, by rw [e11]; exact hb.2.2.2.2.1, by rw [e11]; omega, ?_, (F 1 1).natAbs, by rw [e11]; omega, by omega, hcap2, ?_⟩, hlt⟩
    · obtain ⟨a, b, c, d⟩ := hen3
      rcases sm_i12 hb.1 hb.2.1 with rfl | rfl <;> rcases sm_i12 hb.2.2.1 hb.2.2.2.1 with rfl | rfl
      · exact ⟨a, b, c, d⟩
      · exact ⟨b, a, d, c⟩
      · exact ⟨c, d, a, b⟩
      · exact ⟨d, c, b, a⟩
    · rw [e11]
      exact sm_W1_zz (hW3 _ (sm_Bu_a hpos hlt h6 hP1 hP2 h2p)).1 (by omega) hb.2.1 (by omega) hb.2.2.2.1
end
section
/-! from place to place, and the end -/
def sm_R63 (F : Nat → Nat → Int) : Prop := ∀ r c, r < 3 → c < 4 → (F r c).natAbs ≤ 9223372036854775807
def sm_zero (k : Nat) (F : Nat → Nat → Int) : Prop := ∀ r c, k ≤ r → r < 3 → k ≤ c → c < 3 → F r c = 0
def sm_Q2 (F : Nat → Nat → Int) : Prop := sm_N1 F ∧ F 2 2 ≠ 0
theorem sm_step2 : sm_Step 2 sm_Q2 sm_Q2 := by
  intro F hQ
  have e : sm_rd 2 F = F := rfl
  have hr : sm_rng 2 F := by
    intro r c h1 h2 h3 h4
    have : r = 2 := by omega
    have : c = 2 := by omega
    subst r c
    have := hQ.1.2.2.1.2.2.2
    omega
  rw [e]
  refine ⟨hQ.2, hr, hr, fun _ _ => hQ, fun h => absurd (fun i h1 h2 => by omega) h, fun _ i hf => by have := hf.1; have := hf.2.1; omega⟩
/-- before the first place -/
theorem sm_b0 {A : Nat → Nat → Int} (h : sm_nine A) {row col : Nat} (hb : sm_brg 0 A row col) : sm_Q0 (sm_zz 0 row col A) := by
  obtain ⟨h1, h2, h3, h4, hne, hall⟩ := hb
  refine Or.inl ⟨fun r c hr hc => ?_, by rw [sm_zz00]; exact hne, fun r c hr hc hz => ?_⟩
  · exact h _ _ (sm_sg_lt h2 (by omega) hr) (sm_sg_lt (by omega) (by omega) hc)
  · rw [sm_zz00]
    exact (hall _ _ (by omega) (sm_sg_lt h2 (by omega) hr) (by omega) (sm_sg_lt h4 (by omega) hc) hz).1
theorem sm_W1_le {F : Nat → Nat → Int} {W W' : Nat} (h : sm_W1 F W) (hW : W ≤ W') : sm_W1 F W' :=
  ⟨Nat.le_trans h.1 hW, Nat.le_trans h.2.1 hW, Nat.le_trans h.2.2.1 (by omega), Nat.le_trans h.2.2.2.1 (by omega), h.2.2.2.2⟩
/-- between the first and the second -/
theorem sm_b1 {F : Nat → Nat → Int} (h : sm_N0 F) {row col : Nat} (hb : sm_brg 1 F row col) : sm_Q1 (sm_zz 1 row col F) := by
  obtain ⟨q1, q2, q3, q4, q5, q6, q7, q8, q9⟩ := h
  have hb' := hb
  obtain ⟨h1, h2, h3, h4, hne, hall⟩ := hb
  have hB : sm_B1 F := ⟨q1, q2, q3, q4, q5⟩
  have hW : sm_W1 F 15000000 := ⟨q6 1 (by omega) (by omega), q6 2 (by omega) (by omega), q8 1 (by omega) (by omega), q8 2 (by omega) (by omega), q9⟩
  have e11 : sm_zz 1 row col F 1 1 = F row col := by
    rcases sm_i12 h1 h2 with rfl | rfl <;> rcases sm_i12 h3 h4 with rfl | rfl <;> rfl
  have hle := q7 row col h1 h2 h3 h4
  have hBe := sm_Bu_e (p := (F row col).natAbs) (P := 2 * (F row col).natAbs) (by omega) hle (by omega) (by omega)
  refine ⟨sm_B1_zz hB (by omega) h2 (by omega) h4, by rw [e11]; exact hne, by rw [e11]; exact hle, ?_, 2 * (F row col).natAbs, by rw [e11]; omega, by omega, Or.inl (by rw [e11]; omega), ?_⟩
  · have a := q7 1 1 (by omega) (by omega) (by omega) (by omega)
    have b := q7 1 2 (by omega) (by omega) (by omega) (by omega)
    have c := q7 2 1 (by omega) (by omega) (by omega) (by omega)
    have d := q7 2 2 (by omega) (by omega) (by omega) (by omega)
    rcases sm_i12 h1 h2 with rfl | rfl <;> rcases sm_i12 h3 h4 with rfl | rfl
    · exact ⟨Nat.le_trans a (by omega), Nat.le_trans b (by omega), Nat.le_trans c (by omega), Nat.le_trans d (by omega)⟩
    · exact ⟨Nat.le_trans b (by omega), Nat.le_trans a (by omega), Nat.le_trans d (by omega), Nat.le_trans c (by omega)⟩
    · exact ⟨Nat.le_trans c (by omega), Nat.le_trans d (by omega), Nat.le_trans a (by omega), Nat.le_trans b (by omega)⟩
    · exact ⟨Nat.le_trans d (by omega), Nat.le_trans c (by omega), Nat.le_trans b (by omega), Nat.le_trans a (by omega)⟩
  · rw [e11]; exact sm_W1_zz (sm_W1_le hW hBe.2) (by omega) h2 (by omega) h4
theorem sm_b2 {F : Nat → Nat → Int} (h : sm_N1 F) {row col : Nat} (hb : sm_brg 2 F row col) : row = 2 ∧ col = 2 ∧ sm_Q2 F := by
  obtain ⟨h1, h2, h3, h4, hne, hall⟩ := hb
  have : row = 2 := by omega
  have : col = 2 := by omega
  subst row col
  exact ⟨rfl, rfl, h, hne⟩
theorem sm_rg {F : Nat → Nat → Int} (h : ∀ r c, r < 3 → c < 3 → (F r c).natAbs ≤ 9223372036854775807) (h0 : (F 0 3).natAbs ≤ 9223372036854775807) (h1 : (F 1 3).natAbs ≤ 9223372036854775807) (h2 : (F 2 3).natAbs ≤ 9223372036854775807) : sm_R63 F := by
  intro r c hr hc
  by_cases e : c = 3
  · subst e; rcases sm_k3 hr with rfl | rfl | rfl <;> assumption
  · exact h r c hr (by omega)
theorem sm_dvd0 {a b : Int} (h : b = 0) : a ∣ b := by rw [h]; exact Int.dvd_zero _
/-- the four ends -/
theorem sm_f0 {A V : Nat → Nat → Int} {s : Int} (hr : sm_Rch A A V s) (h : sm_nine A) (hz : sm_zero 0 A) : sm_Fin A A V s 0 ∧ sm_R63 A := by
  have z := fun r c (hr : r < 3) (hc : c < 3) => hz r c (by omega) hr (by omega) hc
  refine ⟨⟨hr, fun r c hr hc _ => z r c hr hc, sm_dvd0 (z 1 1 (by omega) (by omega)), sm_dvd0 (z 2 2 (by omega) (by omega)), by omega, fun k hk => ?_⟩, fun r c hr hc => Nat.le_trans (h r c hr hc) (by omega)⟩
  have := z k k hk hk
  omega
theorem sm_f1 {A F V : Nat → Nat → Int} {s : Int} (hr : sm_Rch A F V s) (h : sm_N0 F) (hz : sm_zero 1 F) : sm_Fin A F V s 1 ∧ sm_R63 F := by
  obtain ⟨q1, q2, q3, q4, q5, q6, q7, q8, q9⟩ := h
  have hD : sm_Dg F := fun r c hr hc hrc => by
    by_cases e : r = 0
    · subst e; exact (q3 c (by omega) hc).2
    · by_cases e2 : c = 0
      · subst e2; exact (q3 r (by omega) hr).1
      · exact hz r c (by omega) hr (by omega) hc
  have z11 := hz 1 1 (by omega) (by omega) (by omega) (by omega)
  have z22 := hz 2 2 (by omega) (by omega) (by omega) (by omega)
  refine ⟨⟨hr, hD, sm_dvd0 z11, sm_dvd0 z22, by omega, fun k hk => ?_⟩, ?_⟩
  · rcases sm_k3 hk with rfl | rfl | rfl
    · exact ⟨fun _ => by omega, fun _ => q1⟩
    · exact ⟨fun z => absurd z11 z, fun z => by omega⟩
    · exact ⟨fun z => absurd z22 z, fun z => by omega⟩
  · refine sm_rg (fun r c hr hc => ?_) (by omega) (Nat.le_trans (q6 1 (by omega) (by omega)) (by omega)) (Nat.le_trans (q6 2 (by omega) (by omega)) (by omega))
    by_cases e : r = c
    · subst e
      by_cases e : r = 0
      · subst e; omega
      · exact Nat.le_trans (q7 r r (by omega) hr (by omega) hr) (by omega)
    · rw [hD r c hr hc e]; omega
theorem sm_fD {F : Nat → Nat → Int} (h : sm_N1 F) : sm_Dg F := by
  obtain ⟨⟨q1, q2, q3, q4, q5⟩, p1, p2, p3, p4, p5, p6⟩ := h
  intro r c hr hc hrc
  by_cases e : r = 0
  · subst e; exact (q3 c (by omega) hc).2
  · by_cases e2 : c = 0
    · subst e2; exact (q3 r (by omega) hr).1
    · by_cases e3 : r = 1
      · subst e3; exact (p3 c (by omega) hc).2
      · have : r = 2 := by omega
        have : c = 1 := by omega
        subst r c
        exact (p3 2 (by omega) (by omega)).1
theorem sm_fR {F : Nat → Nat → Int} (h : sm_N1 F) : sm_R63 F := by
  have hD := sm_fD h
  obtain ⟨⟨q1, q2, q3, q4, q5⟩, p1, ⟨m1, m2, m3, m4⟩, p3, p4, p5, p6⟩ := h
  refine sm_rg (fun r c hr hc => ?_) (by omega) p5 p6
  by_cases e : r = c
  · subst e; rcases sm_k3 hr with rfl | rfl | rfl <;> omega
  · rw [hD r c hr hc e]; omega
theorem sm_f2 {A F V : Nat → Nat → Int} {s : Int} (hr : sm_Rch A F V s) (h : sm_N1 F) (hz : sm_zero 2 F) : sm_Fin A F V s 2 ∧ sm_R63 F := by
  have hD := sm_fD h
  refine ⟨⟨hr, hD, h.1.2.2.2.1 1 (by omega) (by omega) 1 (by omega) (by omega), h.2.2.2.2.1 2 (by omega) (by omega) 2 (by omega) (by omega), by omega, fun k hk => ?_⟩, sm_fR h⟩
  have z22 := hz 2 2 (by omega) (by omega) (by omega) (by omega)
  rcases sm_k3 hk with rfl | rfl | rfl
  · exact ⟨fun _ => by omega, fun _ => h.1.1⟩
  · exact ⟨fun _ => by omega, fun _ => h.2.1⟩
  · exact ⟨fun z => absurd z22 z, fun z => by omega⟩
theorem sm_f3 {A F V : Nat → Nat → Int} {s : Int} (hr : sm_Rch A F V s) (h : sm_Q2 F) : sm_Fin A F V s 3 ∧ sm_R63 F := by
  obtain ⟨h, hz⟩ := h
  have hD := sm_fD h
  refine ⟨⟨hr, hD, h.1.2.2.2.1 1 (by omega) (by omega) 1 (by omega) (by omega), h.2.2.2.2.1 2 (by omega) (by omega) 2 (by omega) (by omega), by omega, fun k hk => ?_⟩, sm_fR h⟩
  rcases sm_k3 hk with rfl | rfl | rfl
  · exact ⟨fun _ => by omega, fun _ => h.1.1⟩
  · exact ⟨fun _ => by omega, fun _ => h.2.1⟩
  · exact ⟨fun _ => by omega, fun _ => hz⟩
end
section
/-! the component's arrays as images of whole numbers; its row and column steps -/
def sm_w (z : Int) : Int64 := Int64.ofInt z
theorem sm_w_add (a b : Int) : sm_w (a + b) = sm_w a + sm_w b := Int64.ofInt_add a b
theorem sm_w_mul (a b : Int) : sm_w (a * b) = sm_w a * sm_w b := Int64.ofInt_mul a b
theorem sm_w_neg (a : Int) : sm_w (-a) = - sm_w a := Int64.ofInt_neg a
theorem sm_w_toInt {a : Int} (h : a.natAbs ≤ 9223372036854775807) : (sm_w a).toInt = a := Int64.toInt_ofInt_of_le (by omega) (by omega)
def sm_FI (f : Nat → Int64) (F : Nat → Nat → Int) : Prop := ∀ r c, r < 3 → c < 4 → f (4 * r + c) = sm_w (F r c)
def sm_BI (f : Nat → Int64) (V : Nat → Nat → Int) : Prop := ∀ r c, r < 3 → c < 3 → f (3 * r + c) = sm_w (V r c)
theorem sm_nm (a b : Nat) : nI a * nI b = nI (a * b) := (Int32.ofNat_mul a b).symm
theorem sm_x4 (a c : Nat) : (4 : Int32) * nI a + nI c = nI (4 * a + c) := by
  rw [show (4 : Int32) = nI 4 from rfl, sm_nm, nI_add]
theorem sm_x3' (a c : Nat) : (3 : Int32) * nI a + nI c = nI (3 * a + c) := by
  rw [show (3 : Int32) = nI 3 from rfl, sm_nm, nI_add]
theorem sm_i4 {a c : Nat} (ha : a < 3) (hc : c < 4) : vp_in ((4 : Int32) * nI a + nI c) 12 := by
  rw [sm_x4]; exact vp_in_nI (by omega) (by omega)
theorem sm_i3 {a c : Nat} (ha : a < 3) (hc : c < 3) : vp_in ((3 : Int32) * nI a + nI c) 9 := by
  rw [sm_x3']; exact vp_in_nI (by omega) (by omega)
theorem sm_cl4 {a c : Nat} (ha : a < 3) (hc : c < 4) : ((4 : Int32) * nI a + nI c).toNatClampNeg = 4 * a + c := by
  rw [sm_x4]; exact nI_clamp (by omega)
theorem sm_cl3 {a c : Nat} (ha : a < 3) (hc : c < 3) : ((3 : Int32) * nI a + nI c).toNatClampNeg = 3 * a + c := by
  rw [sm_x3']; exact nI_clamp (by omega)
section
variable {f_ready f_sign f_rankNow : Int32} {a_entries a_rights : Nat → Int32}
/-- addRow -/
theorem sm_addRow {post : SX → Prop} {a b : Nat} (ha : a < 3) (hb : b < 3) (hab : a ≠ b) {t : Int} {F : Nat → Nat → Int} {f g : Nat → Int64} (hF : sm_FI f F)
    (K : ∀ f', sm_FI f' (sm_aR a b t F) → post (f_ready, f_sign, f_rankNow, a_entries, a_rights, f', g)) :
    wpX_addRow post (f_ready, f_sign, f_rankNow, a_entries, a_rights, f, g) (nI a) (nI b) (sm_w t) := by
  have key : ∀ (d c : Nat) (f : Nat → Int64), c + d = 4 → (∀ r c', r < 3 → c' < 4 → f (4 * r + c') = sm_w (if r = a ∧ c' < c then F r c' + t * F b c' else F r c')) →
      wX_addRow_3 post (nI a) (nI b) (sm_w t) f_ready f_sign f_rankNow (d + 1) (nI c) a_entries a_rights f g := by
    intro d
    induction d with
    | zero =>
      intro c f hc hf
      refine br_t (nI_le (a := 4) (b := c) (by omega) (by omega)) (K f fun r c' hr hc' => ?_)
      rw [hf r c' hr hc']; unfold sm_aR
      by_cases e : r = a
      · rw [if_pos ⟨e, by omega⟩, if_pos e]
      · rw [if_neg (fun z => e z.1), if_neg e]
    | succ d ih =>
      intro c f hc hf
      refine br_f (nI_ge (b := 4) (a := c) (by omega) (by omega)) ⟨sm_i4 ha (by omega), sm_i4 hb (by omega), sm_i4 ha (by omega), nm_e (nm_r (nI_1 c) (ih (c + 1) _ (by omega) fun r c' hr hc' => ?_))⟩
      rw [sm_cl4 ha (by omega), sm_cl4 hb (by omega)]
      unfold vp_updL
      by_cases e : r = a ∧ c' = c
      · obtain ⟨rfl, rfl⟩ := e
        rw [if_pos rfl, if_pos ⟨rfl, by omega⟩, hf r c' hr hc', hf b c' hb hc', if_neg (by omega), if_neg (by omega), sm_w_add, sm_w_mul]
      · rw [if_neg (by omega), hf r c' hr hc']
        by_cases e2 : r = a ∧ c' < c
        · rw [if_pos e2, if_pos ⟨e2.1, by omega⟩]
        · rw [if_neg e2, if_neg (by omega)]
  exact ⟨5, key 4 0 f (by omega) fun r c' hr hc' => by rw [if_neg (by omega)]; exact hF r c' hr hc'⟩
/-- addColumn -/
theorem sm_addCol {post : SX → Prop} {a b : Nat} (ha : a < 3) (hb : b < 3) (hab : a ≠ b) {t : Int} {F V : Nat → Nat → Int} {f g : Nat → Int64} (hF : sm_FI f F) (hV : sm_BI g V)
    (K : ∀ f' g', sm_FI f' (sm_aC a b t F) → sm_BI g' (sm_aC a b t V) → post (f_ready, f_sign, f_rankNow, a_entries, a_rights, f', g')) :
    wpX_addColumn post (f_ready, f_sign, f_rankNow, a_entries, a_rights, f, g) (nI a) (nI b) (sm_w t) := by
  have key : ∀ (d r : Nat) (f g : Nat → Int64), r + d = 3 → (∀ r' c, r' < 3 → c < 4 → f (4 * r' + c) = sm_w (if c = a ∧ r' < r then F r' c + t * F r' b else F r' c)) →
      (∀ r' c, r' < 3 → c < 3 → g (3 * r' + c) = sm_w (if c = a ∧ r' < r then V r' c + t * V r' b else V r' c)) →
      wX_addColumn_3 post (nI a) (nI b) (sm_w t) f_ready f_sign f_rankNow (d + 1) (nI r) a_entries a_rights f g := by
    intro d
    induction d with
    | zero =>
      intro r f g hr hf hg
      refine br_t (nI_le (a := 3) (b := r) (by omega) (by omega)) (K f g (fun r' c hr' hc => ?_) (fun r' c hr' hc => ?_))
      · rw [hf r' c hr' hc]; unfold sm_aC
        by_cases e : c = a
        · rw [if_pos ⟨e, by omega⟩, if_pos e]
        · rw [if_neg (fun z => e z.1), if_neg e]
      · rw [hg r' c hr' hc]; unfold sm_aC
        by_cases e : c = a
        · rw [if_pos ⟨e, by omega⟩, if_pos e]
        · rw [if_neg (fun z => e z.1), if_neg e]
    | succ d ih =>
      intro r f g hr hf hg
      have hr3 : r < 3 := by omega
      refine br_f (nI_ge (b := 3) (a := r) (by omega) (by omega)) ⟨sm_i4 hr3 (by omega), sm_i4 hr3 (by omega), sm_i4 hr3 (by omega), nm_e ⟨sm_i3 hr3 ha, sm_i3 hr3 hb, sm_i3 hr3 ha, nm_e (nm_r (nI_1 r) (ih (r + 1) _ _ (by omega) (fun r' c hr' hc => ?_) (fun r' c hr' hc => ?_)))⟩⟩
      · rw [sm_cl4 hr3 (by omega), sm_cl4 hr3 (by omega)]
        unfold vp_updL
        by_cases e : c = a ∧ r' = r
        · obtain ⟨rfl, rfl⟩ := e
          rw [if_pos rfl, if_pos ⟨rfl, by omega⟩, hf r' c hr' hc, hf r' b hr' (by omega), if_neg (by omega), if_neg (by omega), sm_w_add, sm_w_mul]
        · rw [if_neg (by omega), hf r' c hr' hc]
          by_cases e2 : c = a ∧ r' < r
          · rw [if_pos e2, if_pos ⟨e2.1, by omega⟩]
          · rw [if_neg e2, if_neg (by omega)]
      · rw [sm_cl3 hr3 ha, sm_cl3 hr3 hb]
        unfold vp_updL
        by_cases e : c = a ∧ r' = r
        · obtain ⟨rfl, rfl⟩ := e
          rw [if_pos rfl, if_pos ⟨rfl, by omega⟩, hg r' c hr' hc, hg r' b hr' hb, if_neg (by omega), if_neg (by omega), sm_w_add, sm_w_mul]
        · rw [if_neg (by omega), hg r' c hr' hc]
          by_cases e2 : c = a ∧ r' < r
          · rw [if_pos e2, if_pos ⟨e2.1, by omega⟩]
          · rw [if_neg e2, if_neg (by omega)]
  exact ⟨4, key 3 0 f g (by omega) (fun r c hr hc => by rw [if_neg (by omega)]; exact hF r c hr hc) (fun r c hr hc => by rw [if_neg (by omega)]; exact hV r c hr hc)⟩
/-- swapRows -/
theorem sm_swapRows {post : SX → Prop} {a b : Nat} (ha : a < 3) (hb : b < 3) (hab : a ≠ b) {F : Nat → Nat → Int} {f g : Nat → Int64} (hF : sm_FI f F)
    (K : ∀ f', sm_FI f' (sm_zR a b F) → post (f_ready, -f_sign, f_rankNow, a_entries, a_rights, f', g)) :
    wpX_swapRows post (f_ready, f_sign, f_rankNow, a_entries, a_rights, f, g) (nI a) (nI b) := by
  have key : ∀ (d c : Nat) (f : Nat → Int64), c + d = 4 → (∀ r c', r < 3 → c' < 4 → f (4 * r + c') = sm_w (if c' < c then F (sm_sg a b r) c' else F r c')) →
      wX_swapRows_11 post (nI a) (nI b) f_ready (-f_sign) f_rankNow (d + 1) (nI c) a_entries a_rights f g := by
    intro d
    induction d with
    | zero =>
      intro c f hc hf
      refine br_t (nI_le (a := 4) (b := c) (by omega) (by omega)) (K f fun r c' hr hc' => ?_)
      rw [hf r c' hr hc', if_pos (by omega)]; rfl
    | succ d ih =>
      intro c f hc hf
      refine br_f (nI_ge (b := 4) (a := c) (by omega) (by omega)) ⟨sm_i4 ha (by omega), nm_e ⟨sm_i4 hb (by omega), sm_i4 ha (by omega), nm_e ⟨sm_i4 hb (by omega), nm_e (nm_r (nI_1 c) (ih (c + 1) _ (by omega) fun r c' hr hc' => ?_))⟩⟩⟩
      rw [sm_cl4 ha (by omega), sm_cl4 hb (by omega)]
      unfold vp_updL
      have fa := hf a c ha (by omega)
      have fb := hf b c hb (by omega)
      rw [if_neg (by omega)] at fa fb
      by_cases e : c' = c
      · subst e
        rw [if_pos (by omega : c' < c' + 1)]
        unfold sm_sg
        by_cases e1 : r = b
        · subst e1
          rw [if_pos rfl, if_neg (fun z => hab z.symm), if_pos rfl, fa]
        · rw [if_neg (by omega)]
          by_cases e2 : r = a
          · subst e2; rw [if_pos rfl, if_pos rfl, fb]
          · rw [if_neg (by omega), if_neg e2, if_neg e1, hf r c' hr hc', if_neg (by omega)]
      · rw [if_neg (by omega), if_neg (by omega), hf r c' hr hc']
        by_cases e2 : c' < c
        · rw [if_pos e2, if_pos (by omega)]
        · rw [if_neg e2, if_neg (by omega)]
  exact nm_e ⟨5, key 4 0 f (by omega) fun r c' hr hc' => by rw [if_neg (by omega)]; exact hF r c' hr hc'⟩
/-- swapColumns -/
theorem sm_swapCols {post : SX → Prop} {a b : Nat} (ha : a < 3) (hb : b < 3) (hab : a ≠ b) {F V : Nat → Nat → Int} {f g : Nat → Int64} (hF : sm_FI f F) (hV : sm_BI g V)
    (K : ∀ f' g', sm_FI f' (sm_zC a b F) → sm_BI g' (sm_zC a b V) → post (f_ready, -f_sign, f_rankNow, a_entries, a_rights, f', g')) :
    wpX_swapColumns post (f_ready, f_sign, f_rankNow, a_entries, a_rights, f, g) (nI a) (nI b) := by
  have key : ∀ (d r : Nat) (f g : Nat → Int64), r + d = 3 → (∀ r' c, r' < 3 → c < 4 → f (4 * r' + c) = sm_w (if r' < r then F r' (sm_sg a b c) else F r' c)) →
      (∀ r' c, r' < 3 → c < 3 → g (3 * r' + c) = sm_w (if r' < r then V r' (sm_sg a b c) else V r' c)) →
      wX_swapColumns_11 post (nI a) (nI b) f_ready (-f_sign) f_rankNow (d + 1) (nI r) a_entries a_rights f g := by
    intro d
    induction d with
    | zero =>
      intro r f g hr hf hg
      refine br_t (nI_le (a := 3) (b := r) (by omega) (by omega)) (K f g (fun r' c hr' hc => ?_) (fun r' c hr' hc => ?_))
      · rw [hf r' c hr' hc, if_pos (by omega)]; rfl
      · rw [hg r' c hr' hc, if_pos (by omega)]; rfl
    | succ d ih =>
      intro r f g hr hf hg
      have hr3 : r < 3 := by omega
      refine br_f (nI_ge (b := 3) (a := r) (by omega) (by omega)) ⟨sm_i4 hr3 (by omega), nm_e ⟨sm_i4 hr3 (by omega), sm_i4 hr3 (by omega), nm_e ⟨sm_i4 hr3 (by omega), nm_e ⟨sm_i3 hr3 ha, nm_e ⟨sm_i3 hr3 hb, sm_i3 hr3 ha, nm_e ⟨sm_i3 hr3 hb, nm_e (nm_r (nI_1 r) (ih (r + 1) _ _ (by omega) (fun r' c hr' hc => ?_) (fun r' c hr' hc => ?_)))⟩⟩⟩⟩⟩⟩
      · rw [sm_cl4 hr3 (by omega), sm_cl4 hr3 (by omega)]
        unfold vp_updL
        have fa := hf r a hr3 (by omega)
        have fb := hf r b hr3 (by omega)
        rw [if_neg (by omega)] at fa fb
        by_cases e : r' = r
        · subst e
          rw [if_pos (by omega : r' < r' + 1)]
          unfold sm_sg
          by_cases e1 : c = b
          · subst e1
            rw [if_pos rfl, if_neg (fun z => hab z.symm), if_pos rfl, fa]
          · rw [if_neg (by omega)]
            by_cases e2 : c = a
            · subst e2; rw [if_pos rfl, if_pos rfl, fb]
            · rw [if_neg (by omega), if_neg e2, if_neg e1, hf r' c hr' hc, if_neg (by omega)]
        · rw [if_neg (by omega), if_neg (by omega), hf r' c hr' hc]
          by_cases e2 : r' < r
          · rw [if_pos e2, if_pos (by omega)]
          · rw [if_neg e2, if_neg (by omega)]
      · rw [sm_cl3 hr3 ha, sm_cl3 hr3 hb]
        unfold vp_updL
        have fa := hg r a hr3 ha
        have fb := hg r b hr3 hb
        rw [if_neg (by omega)] at fa fb
        by_cases e : r' = r
        · subst e
          rw [if_pos (by omega : r' < r' + 1)]
          unfold sm_sg
          by_cases e1 : c = b
          · subst e1
            rw [if_pos rfl, if_neg (fun z => hab z.symm), if_pos rfl, fa]
          · rw [if_neg (by omega)]
            by_cases e2 : c = a
            · subst e2; rw [if_pos rfl, if_pos rfl, fb]
            · rw [if_neg (by omega), if_neg e2, if_neg e1, hg r' c hr' hc, if_neg (by omega)]
        · rw [if_neg (by omega), if_neg (by omega), hg r' c hr' hc]
          by_cases e2 : r' < r
          · rw [if_pos e2, if_pos (by omega)]
          · rw [if_neg e2, if_neg (by omega)]
  exact nm_e ⟨4, key 3 0 f g (by omega) (fun r c hr hc => by rw [if_neg (by omega)]; exact hF r c hr hc) (fun r c hr hc => by rw [if_neg (by omega)]; exact hV r c hr hc)⟩
end
end
section
/-! longs that hold whole numbers in range -/
theorem sm_w_0 : sm_w 0 = 0 := by decide
theorem sm_w_1 : sm_w 1 = 1 := by decide
theorem sm_w_eq0 {a : Int} (h : a.natAbs ≤ 9223372036854775807) : sm_w a = 0 ↔ a = 0 := by
  constructor
  · intro z; have := congrArg Int64.toInt z; rw [sm_w_toInt h, show (0 : Int64).toInt = 0 from by decide] at this; exact this
  · intro z; rw [z, sm_w_0]
theorem sm_w_le0 {a : Int} (h : a.natAbs ≤ 9223372036854775807) : (0 : Int64) ≤ sm_w a ↔ 0 ≤ a := by
  rw [Int64.le_iff_toInt_le, sm_w_toInt h, show (0 : Int64).toInt = 0 from by decide]
theorem sm_w_lt {a b : Int} (ha : a.natAbs ≤ 9223372036854775807) (hb : b.natAbs ≤ 9223372036854775807) : sm_w a < sm_w b ↔ a < b := by
  rw [Int64.lt_iff_toInt_lt, sm_w_toInt ha, sm_w_toInt hb]
theorem sm_w_div {a b : Int} (ha : a.natAbs ≤ 9223372036854775807) (hb : b.natAbs ≤ 9223372036854775807) : sm_w a / sm_w b = sm_w (a.tdiv b) := by
  apply Int64.toInt_inj.mp
  have hm : sm_w a ≠ Int64.minValue := fun z => by
    have := congrArg Int64.toInt z
    rw [sm_w_toInt ha, show Int64.minValue.toInt = -9223372036854775808 from by decide] at this
    omega
  have hd := Int.natAbs_tdiv_le_natAbs a b
  rw [Int64.toInt_div_of_ne_left _ _ hm, sm_w_toInt ha, sm_w_toInt hb, sm_w_toInt (by omega)]
theorem sm_w_sub (a b : Int) : sm_w (a - b) = sm_w a - sm_w b := Int64.ofInt_sub a b
theorem sm_w_rem {a b : Int} (ha : a.natAbs ≤ 9223372036854775807) (hb : b.natAbs ≤ 9223372036854775807) : sm_w a - sm_w a / sm_w b * sm_w b = sm_w (a.tmod b) := by
  rw [sm_w_div ha hb, ← sm_w_mul, ← sm_w_sub]
  congr 1
  rw [Int.tmod_def]; grind
theorem sm_w_rem0 {a b : Int} (ha : a.natAbs ≤ 9223372036854775807) (hb : b.natAbs ≤ 9223372036854775807) : sm_w a - sm_w a / sm_w b * sm_w b = 0 ↔ b ∣ a := by
  rw [sm_w_rem ha hb]
  have h : (a.tmod b).natAbs ≤ 9223372036854775807 := by
    rw [Int.natAbs_tmod]; exact Nat.le_trans (Nat.mod_le _ _) ha
  rw [sm_w_eq0 h]
  exact Int.dvd_iff_tmod_eq_zero.symm
/-- the arrays and the sign belong to a matrix that is reached from A -/
def sm_St (A F : Nat → Nat → Int) (f g : Nat → Int64) (sgn : Int32) : Prop := ∃ V s, sm_FI f F ∧ sm_BI g V ∧ sm_Rch A F V s ∧ sgn = Int32.ofInt s
section
variable {f_ready f_rankNow : Int32} {a_entries a_rights : Nat → Int32} {A : Nat → Nat → Int}
theorem sm_St_addRow {post : SX → Prop} {a b : Nat} (ha : a < 3) (hb : b < 3) (hab : a ≠ b) {t : Int} {F : Nat → Nat → Int} {f g : Nat → Int64} {sgn : Int32} (h : sm_St A F f g sgn)
    (K : ∀ f', sm_St A (sm_aR a b t F) f' g sgn → post (f_ready, sgn, f_rankNow, a_entries, a_rights, f', g)) :
    wpX_addRow post (f_ready, sgn, f_rankNow, a_entries, a_rights, f, g) (nI a) (nI b) (sm_w t) := by
  obtain ⟨V, s, hF, hV, hR, hs⟩ := h
  exact sm_addRow ha hb hab hF fun f' hf' => K f' ⟨V, s, hf', hV, sm_Rch_aR hR ha hb hab t, hs⟩
theorem sm_St_addCol {post : SX → Prop} {a b : Nat} (ha : a < 3) (hb : b < 3) (hab : a ≠ b) {t : Int} {F : Nat → Nat → Int} {f g : Nat → Int64} {sgn : Int32} (h : sm_St A F f g sgn)
    (K : ∀ f' g', sm_St A (sm_aC a b t F) f' g' sgn → post (f_ready, sgn, f_rankNow, a_entries, a_rights, f', g')) :
    wpX_addColumn post (f_ready, sgn, f_rankNow, a_entries, a_rights, f, g) (nI a) (nI b) (sm_w t) := by
  obtain ⟨V, s, hF, hV, hR, hs⟩ := h
  exact sm_addCol ha hb hab hF hV fun f' g' hf' hg' => K f' g' ⟨_, s, hf', hg', sm_Rch_aC hR ha hb hab t, hs⟩
theorem sm_St_swapR {post : SX → Prop} {a b : Nat} (ha : a < 3) (hb : b < 3) (hab : a ≠ b) {F : Nat → Nat → Int} {f g : Nat → Int64} {sgn : Int32} (h : sm_St A F f g sgn)
    (K : ∀ f' sgn', sm_St A (sm_zR a b F) f' g sgn' → post (f_ready, sgn', f_rankNow, a_entries, a_rights, f', g)) :
    wpX_swapRows post (f_ready, sgn, f_rankNow, a_entries, a_rights, f, g) (nI a) (nI b) := by
  obtain ⟨V, s, hF, hV, hR, hs⟩ := h
  exact sm_swapRows ha hb hab hF fun f' hf' => K f' _ ⟨V, -s, hf', hV, sm_Rch_zR hR ha hb hab, by rw [hs, Int32.ofInt_neg]⟩
theorem sm_St_swapC {post : SX → Prop} {a b : Nat} (ha : a < 3) (hb : b < 3) (hab : a ≠ b) {F : Nat → Nat → Int} {f g : Nat → Int64} {sgn : Int32} (h : sm_St A F f g sgn)
    (K : ∀ f' g' sgn', sm_St A (sm_zC a b F) f' g' sgn' → post (f_ready, sgn', f_rankNow, a_entries, a_rights, f', g')) :
    wpX_swapColumns post (f_ready, sgn, f_rankNow, a_entries, a_rights, f, g) (nI a) (nI b) := by
  obtain ⟨V, s, hF, hV, hR, hs⟩ := h
  exact sm_swapCols ha hb hab hF hV fun f' g' hf' hg' => K f' g' _ ⟨_, -s, hf', hg', sm_Rch_zC hR ha hb hab, by rw [hs, Int32.ofInt_neg]⟩
theorem sm_St_r {F : Nat → Nat → Int} {f g : Nat → Int64} {sgn : Int32} (h : sm_St A F f g sgn) {r c : Nat} (hr : r < 3) (hc : c < 4) : f ((4 : Int32) * nI r + nI c).toNatClampNeg = sm_w (F r c) := by
  obtain ⟨V, s, hF, -⟩ := h
  rw [sm_cl4 hr hc]; exact hF r c hr hc
/-- clearColumn -/
theorem sm_clearCol {post : SX → Prop} {k : Nat} (hk : k < 3) {F : Nat → Nat → Int} {f g : Nat → Int64} {sgn : Int32} (h : sm_St A F f g sgn) (hp : F k k ≠ 0) (hr : sm_rng k F)
    (K : ∀ f', sm_St A (sm_cC k F) f' g sgn → post (f_ready, sgn, f_rankNow, a_entries, a_rights, f', g)) :
    wpX_clearColumn post (f_ready, sgn, f_rankNow, a_entries, a_rights, f, g) (nI k) := by
  have key : ∀ (d r : Nat) (F : Nat → Nat → Int) (f : Nat → Int64), r + d = 3 → k < r → sm_St A F f g sgn → F k k ≠ 0 → (F k k).natAbs < 4611686018427387904 → (∀ r', r ≤ r' → r' < 3 → (F r' k).natAbs < 4611686018427387904) →
      (∀ f', sm_St A (sm_lC k r d F) f' g sgn → post (f_ready, sgn, f_rankNow, a_entries, a_rights, f', g)) →
      wX_clearColumn_4 post (nI k) (d + 1) (nI r) f_ready sgn f_rankNow a_entries a_rights f g := by
    intro d
    induction d with
    | zero =>
      intro r F f hrd hkr hS h1 h2 h3 K
      exact br_t (nI_le (a := 3) (b := r) (by omega) (by omega)) (K f hS)
    | succ d ih =>
      intro r F f hrd hkr hS h1 h2 h3 K
      have hr3 : r < 3 := by omega
      have e1 := sm_St_r hS hr3 (show k < 4 by omega)
      have e2 := sm_St_r hS hk (show k < 4 by omega)
      have h3r := h3 r (by omega) hr3
      refine br_f (nI_ge (b := 3) (a := r) (by omega) (by omega)) ⟨sm_i4 hr3 (by omega), sm_i4 hk (by omega), ?_, ?_⟩
      · rw [e2, sm_w_eq0 (by omega)]; exact h1
      · rw [e1, e2, sm_w_div (by omega) (by omega)]
        refine nm_e ?_
        rw [← sm_w_neg]
        refine sm_St_addRow hr3 hk (by omega) hS fun f' hf' => nm_r (nI_1 r) ?_
        have u : ∀ r', r' ≠ r → ∀ c, sm_sC k r F r' c = F r' c := fun r' hne c => by unfold sm_sC sm_aR; rw [if_neg hne]
        exact ih (r + 1) (sm_sC k r F) f' (by omega) (by omega) hf' (by rw [u k (by omega)]; exact h1) (by rw [u k (by omega)]; exact h2) (fun r' ha hb => by rw [u r' (by omega)]; exact h3 r' (by omega) hb) K
  refine nm_r (nI_1 k) ⟨2 - k + 1, ?_⟩
  exact key (2 - k) (k + 1) F f (by omega) (by omega) h hp (hr k k (by omega) hk (by omega) hk) (fun r' ha hb => hr r' k (by omega) hb (by omega) hk) K
/-- clearRow -/
theorem sm_clearRow {post : SX → Prop} {k : Nat} (hk : k < 3) {F : Nat → Nat → Int} {f g : Nat → Int64} {sgn : Int32} (h : sm_St A F f g sgn) (hp : F k k ≠ 0) (hp2 : (F k k).natAbs < 4611686018427387904)
    (hr : ∀ c, k < c → c < 3 → (F k c).natAbs < 4611686018427387904)
    (K : ∀ f' g', sm_St A (sm_cR k F) f' g' sgn → post (f_ready, sgn, f_rankNow, a_entries, a_rights, f', g')) :
    wpX_clearRow post (f_ready, sgn, f_rankNow, a_entries, a_rights, f, g) (nI k) := by
  have key : ∀ (d r : Nat) (F : Nat → Nat → Int) (f g : Nat → Int64), r + d = 3 → k < r → sm_St A F f g sgn → F k k ≠ 0 → (F k k).natAbs < 4611686018427387904 → (∀ r', r ≤ r' → r' < 3 → (F k r').natAbs < 4611686018427387904) →
      (∀ f' g', sm_St A (sm_lR k r d F) f' g' sgn → post (f_ready, sgn, f_rankNow, a_entries, a_rights, f', g')) →
      wX_clearRow_4 post (nI k) (d + 1) (nI r) f_ready sgn f_rankNow a_entries a_rights f g := by
    intro d
    induction d with
    | zero =>
      intro r F f g hrd hkr hS h1 h2 h3 K
      exact br_t (nI_le (a := 3) (b := r) (by omega) (by omega)) (K f g hS)
    | succ d ih =>
      intro r F f g hrd hkr hS h1 h2 h3 K
      have hr3 : r < 3 := by omega
      have e1 := sm_St_r hS hk (show r < 4 by omega)
      have e2 := sm_St_r hS hk (show k < 4 by omega)
      have h3r := h3 r (by omega) hr3
      refine br_f (nI_ge (b := 3) (a := r) (by omega) (by omega)) ⟨sm_i4 hk (by omega), sm_i4 hk (by omega), ?_, ?_⟩
      · rw [e2, sm_w_eq0 (by omega)]; exact h1
      · rw [e1, e2, sm_w_div (by omega) (by omega)]
        refine nm_e ?_
        rw [← sm_w_neg]
        refine sm_St_addCol hr3 hk (by omega) hS fun f' g' hf' => nm_r (nI_1 r) ?_
        have u : ∀ c, c ≠ r → ∀ r', sm_sR k r F r' c = F r' c := fun c hne r' => by unfold sm_sR sm_aC; rw [if_neg hne]
        exact ih (r + 1) (sm_sR k r F) f' g' (by omega) (by omega) hf' (by rw [u k (by omega)]; exact h1) (by rw [u k (by omega)]; exact h2) (fun r' ha hb => by rw [u r' (by omega)]; exact h3 r' (by omega) hb) K
  refine nm_r (nI_1 k) ⟨2 - k + 1, ?_⟩
  exact key (2 - k) (k + 1) F f g (by omega) (by omega) h hp hp2 (fun r' ha hb => hr r' (by omega) hb) K
/-- settled -/
theorem sm_settled {post : Int32 → SX → Prop} {k : Nat} (hk : k < 3) {F : Nat → Nat → Int} {f g : Nat → Int64} {sgn : Int32} (h : sm_St A F f g sgn) (hp : F k k ≠ 0) (hr : sm_rng k F)
    (K1 : ¬ sm_clean k F → post 0 (f_ready, sgn, f_rankNow, a_entries, a_rights, f, g))
    (K2 : sm_clean k F → sm_divs k F → post 1 (f_ready, sgn, f_rankNow, a_entries, a_rights, f, g))
    (K3 : sm_clean k F → ∀ i, sm_fst k i F → ∀ f' g', sm_St A (sm_add k i F) f' g' sgn → post 0 (f_ready, sgn, f_rankNow, a_entries, a_rights, f', g')) :
    wpX_settled post (f_ready, sgn, f_rankNow, a_entries, a_rights, f, g) (nI k) := by
  have hR : ∀ r c, k ≤ r → r < 3 → k ≤ c → c < 3 → (F r c).natAbs ≤ 9223372036854775807 := fun r c a b d e => by have := hr r c a b d e; omega
  have hkk := hR k k (by omega) hk (by omega) hk
  -- the columns of one row
  have key3 : ∀ (J : Int32 → Prop) (r : Nat), k < r → r < 3 → sm_clean k F → (∀ r', k < r' → r' < r → sm_rdiv k r' F) → (sm_rdiv k r F → J (nI (r + 1))) →
      ∀ (d c : Nat), c + d = 3 → k < c → (∀ c', k < c' → c' < c → F k k ∣ F r c') →
      wX_settled_74 post J (nI k) (sm_w (F k k)) (nI r) f_ready sgn f_rankNow a_entries a_rights f g (d + 1) (nI c) := by
    intro J r hkr hr3 hcl hprev hJ d
    induction d with
    | zero =>
      intro c hc hkc hdv
      exact br_t (nI_le (a := 3) (b := c) (by omega) (by omega)) (nm_r (nI_1 r) (hJ fun c' a b => hdv c' a (by omega)))
    | succ d ih =>
      intro c hc hkc hdv
      have hc3 : c < 3 := by omega
      have e1 := sm_St_r h hr3 (show c < 4 by omega)
      refine br_f (nI_ge (b := 3) (a := c) (by omega) (by omega)) ⟨sm_i4 hr3 (by omega), ?_, ?_⟩
      · rw [sm_w_eq0 hkk]; exact hp
      · rw [e1]
        refine br_c (fun z => ?_) (fun z => ?_)
        · rw [sm_w_rem0 (hR r c (by omega) hr3 (by omega) hc3) hkk] at z
          refine nm_r (nI_1 c) (ih (c + 1) (by omega) (by omega) fun c' a b => ?_)
          by_cases e : c' = c
          · subst e; exact z
          · exact hdv c' a (by omega)
        · rw [sm_w_rem0 (hR r c (by omega) hr3 (by omega) hc3) hkk] at z
          have hfst : sm_fst k r F := ⟨hkr, hr3, fun q => z (q c hkc hc3), hprev⟩
          rw [← sm_w_1]
          refine sm_St_addRow hk hr3 (by omega) h fun f' hf' => ?_
          have ek : ∀ c, sm_aR k r 1 F k c = F k c + 1 * F r c := fun c => by unfold sm_aR; rw [if_pos rfl]
          refine sm_clearRow hk hf' ?_ ?_ ?_ fun f'' g'' hf'' => K3 hcl r hfst f'' g'' hf''
          · rw [ek, (hcl r hkr hr3).1]; omega
          · have := hr k k (by omega) hk (by omega) hk; rw [ek, (hcl r hkr hr3).1]; omega
          · intro c' a b; have := hr r c' (by omega) hr3 (by omega) b; rw [ek, (hcl c' a b).2]; omega
  -- the rows
  have key2 : ∀ (d r : Nat), r + d = 3 → k < r → sm_clean k F → (∀ r', k < r' → r' < r → sm_rdiv k r' F) →
      wX_settled_63 post (nI k) (sm_w (F k k)) f_ready sgn f_rankNow a_entries a_rights f g (d + 1) (nI r) := by
    intro d
    induction d with
    | zero =>
      intro r hrd hkr hcl hprev
      exact br_t (nI_le (a := 3) (b := r) (by omega) (by omega)) (K2 hcl fun r' a b => hprev r' a (by omega))
    | succ d ih =>
      intro r hrd hkr hcl hprev
      have hr3 : r < 3 := by omega
      refine br_f (nI_ge (b := 3) (a := r) (by omega) (by omega)) (nm_r (nI_1 k) ⟨2 - k + 1, ?_⟩)
      refine key3 _ r hkr hr3 hcl hprev (fun q => ih (r + 1) (by omega) (by omega) hcl fun r' a b => ?_) (2 - k) (k + 1) (by omega) (by omega) (fun c' a b => by omega)
      by_cases e : r' = r
      · subst e; exact q
      · exact hprev r' a (by omega)
  -- row and column of the pivot
  have key1 : ∀ (d i : Nat), i + d = 3 → k < i → (∀ i', k < i' → i' < i → F i' k = 0 ∧ F k i' = 0) →
      wX_settled_4 post (nI k) f_ready sgn f_rankNow a_entries a_rights f g (d + 1) (nI i) := by
    intro d
    induction d with
    | zero =>
      intro i hid hki hprev
      have hcl : sm_clean k F := fun i' a b => hprev i' a (by omega)
      refine br_t (nI_le (a := 3) (b := i) (by omega) (by omega)) ⟨sm_i4 hk (by omega), nm_r (sm_St_r h hk (by omega)) (nm_r (nI_1 k) ⟨2 - k + 1, ?_⟩)⟩
      exact key2 (2 - k) (k + 1) (by omega) (by omega) hcl (fun r' a b => by omega)
    | succ d ih =>
      intro i hid hki hprev
      have hi3 : i < 3 := by omega
      refine br_f (nI_ge (b := 3) (a := i) (by omega) (by omega)) ⟨sm_i4 hi3 (by omega), ?_⟩
      rw [sm_St_r h hi3 (show k < 4 by omega), sm_St_r h hk (show i < 4 by omega)]
      refine br_c (fun z => ⟨sm_i4 hk (by omega), br_c (fun y => ?_) (fun y => ?_)⟩) (fun z => ?_)
      · rw [sm_w_eq0 (hR i k (by omega) hi3 (by omega) hk)] at z
        rw [sm_w_eq0 (hR k i (by omega) hk (by omega) hi3)] at y
        refine nm_r (nI_1 i) (ih (i + 1) (by omega) (by omega) fun i' a b => ?_)
        by_cases e : i' = i
        · subst e; exact ⟨z, y⟩
        · exact hprev i' a (by omega)
      · rw [sm_w_eq0 (hR k i (by omega) hk (by omega) hi3)] at y
        exact K1 fun q => y (q i hki hi3).2
      · rw [sm_w_eq0 (hR i k (by omega) hi3 (by omega) hk)] at z
        exact K1 fun q => z (q i hki hi3).1
  exact nm_r (nI_1 k) ⟨2 - k + 1, key1 (2 - k) (k + 1) (by omega) (by omega) (fun i' a b => by omega)⟩
end
end
section
/-! bringSmallest -/
def sm_blk (k r c : Nat) : Prop := k ≤ r ∧ r < 3 ∧ k ≤ c ∧ c < 3
/-- the best place among those ahead of (r, c) -/
def sm_sc (k : Nat) (F : Nat → Nat → Int) (r c : Nat) (x2 x3 : Int32) (x4 : Int64) : Prop :=
  (x2 = -1 ∧ x4 = 0 ∧ ∀ r' c', sm_blk k r' c' → sm_lex r' c' r c → F r' c' = 0) ∨
  (∃ row col, x2 = nI row ∧ x3 = nI col ∧ x4 = sm_w (F row col).natAbs ∧ sm_blk k row col ∧ sm_lex row col r c ∧ F row col ≠ 0 ∧
    ∀ r' c', sm_blk k r' c' → sm_lex r' c' r c → F r' c' ≠ 0 → (F row col).natAbs ≤ (F r' c').natAbs ∧ (sm_lex r' c' row col → (F row col).natAbs < (F r' c').natAbs))
theorem sm_sc_row {k : Nat} {F : Nat → Nat → Int} {r : Nat} {x2 x3 : Int32} {x4 : Int64} (h : sm_sc k F r 3 x2 x3 x4) : sm_sc k F (r + 1) k x2 x3 x4 := by
  have hl : ∀ r' c', sm_blk k r' c' → sm_lex r' c' (r + 1) k → sm_lex r' c' r 3 := by
    rintro r' c' ⟨b1, b2, b3, b4⟩ (q | q)
    · by_cases e : r' = r
      · exact Or.inr ⟨e, b4⟩
      · exact Or.inl (by omega)
    · exact absurd q.2 (by omega)
  rcases h with ⟨h1, h2, h3⟩ | ⟨row, col, h1, h2, h3, h4, h5, h6, h7⟩
  · exact Or.inl ⟨h1, h2, fun r' c' hb hx => h3 r' c' hb (hl r' c' hb hx)⟩
  · refine Or.inr ⟨row, col, h1, h2, h3, h4, ?_, h6, fun r' c' hb hx => h7 r' c' hb (hl r' c' hb hx)⟩
    rcases h5 with q | q
    · exact Or.inl (by omega)
    · exact Or.inl (by omega)
theorem sm_lex_s {r' c' r c : Nat} (h : sm_lex r' c' r (c + 1)) : sm_lex r' c' r c ∨ (r' = r ∧ c' = c) := by
  rcases h with q | q
  · exact Or.inl (Or.inl q)
  · by_cases e : c' = c
    · exact Or.inr ⟨q.1, e⟩
    · exact Or.inl (Or.inr ⟨q.1, by omega⟩)
theorem sm_lex_w {r' c' r c : Nat} (h : sm_lex r' c' r c) : sm_lex r' c' r (c + 1) := by
  rcases h with q | q
  · exact Or.inl q
  · exact Or.inr ⟨q.1, by omega⟩
/-- the place (r, c) is looked at and passed by -/
theorem sm_sc_skip {k : Nat} {F : Nat → Nat → Int} {r c : Nat} {x2 x3 : Int32} {x4 : Int64} (h : sm_sc k F r c x2 x3 x4)
    (hz : F r c = 0 ∨ (x4 ≠ 0 ∧ ∀ n : Nat, x4 = sm_w n → n ≤ 4611686018427387904 → n ≤ (F r c).natAbs)) (hr : sm_rng k F) : sm_sc k F r (c + 1) x2 x3 x4 := by
  rcases h with ⟨h1, h2, h3⟩ | ⟨row, col, h1, h2, h3, h4, h5, h6, h7⟩
  · refine Or.inl ⟨h1, h2, fun r' c' hb hx => ?_⟩
    rcases sm_lex_s hx with q | ⟨rfl, rfl⟩
    · exact h3 r' c' hb q
    · rcases hz with z | z
      · exact z
      · exact absurd h2 z.1
  · refine Or.inr ⟨row, col, h1, h2, h3, h4, sm_lex_w h5, h6, fun r' c' hb hx hne => ?_⟩
    rcases sm_lex_s hx with q | ⟨rfl, rfl⟩
    · exact h7 r' c' hb q hne
    · rcases hz with z | z
      · exact absurd z hne
      · refine ⟨z.2 _ h3 (Nat.le_of_lt (hr row col h4.1 h4.2.1 h4.2.2.1 h4.2.2.2)), fun q => ?_⟩
        rcases h5 with h5 | h5 <;> rcases q with q | q <;> omega
/-- the place (r, c) is taken -/
theorem sm_sc_take {k : Nat} {F : Nat → Nat → Int} {r c : Nat} {x2 x3 : Int32} {x4 : Int64} (h : sm_sc k F r c x2 x3 x4) (hb : sm_blk k r c) (hne : F r c ≠ 0)
    (hlt : x4 ≠ 0 → ∀ n : Nat, x4 = sm_w n → n ≤ 4611686018427387904 → (F r c).natAbs < n) (hr : sm_rng k F) : sm_sc k F r (c + 1) (nI r) (nI c) (sm_w (F r c).natAbs) := by
  refine Or.inr ⟨r, c, rfl, rfl, rfl, hb, Or.inr ⟨rfl, by omega⟩, hne, fun r' c' hb' hx hne' => ?_⟩
  rcases sm_lex_s hx with q | ⟨rfl, rfl⟩
  · have key : (F r c).natAbs < (F r' c').natAbs := by
      rcases h with ⟨h1, h2, h3⟩ | ⟨row, col, h1, h2, h3, h4, h5, h6, h7⟩
      · exact absurd (h3 r' c' hb' q) hne'
      · have hn := Nat.le_of_lt (hr row col h4.1 h4.2.1 h4.2.2.1 h4.2.2.2)
        have h0 : x4 ≠ 0 := by
          rw [h3]; intro z
          rw [sm_w_eq0 (by omega)] at z; omega
        exact Nat.lt_of_lt_of_le (hlt h0 _ h3 hn) (h7 r' c' hb' q hne').1
    exact ⟨Nat.le_of_lt key, fun _ => key⟩
  · exact ⟨Nat.le_refl _, fun q => by rcases q with q | q <;> omega⟩
section
variable {f_ready f_rankNow : Int32} {a_entries a_rights : Nat → Int32} {A : Nat → Nat → Int}
theorem sm_bring {post : Int32 → SX → Prop} {k : Nat} (hk : k < 3) {F : Nat → Nat → Int} {f g : Nat → Int64} {sgn : Int32} (h : sm_St A F f g sgn) (hr : sm_rng k F)
    (K0 : sm_zero k F → post 0 (f_ready, sgn, f_rankNow, a_entries, a_rights, f, g))
    (K1 : ∀ row col, sm_brg k F row col → ∀ f' g' sgn', sm_St A (sm_zz k row col F) f' g' sgn' → post 1 (f_ready, sgn', f_rankNow, a_entries, a_rights, f', g')) :
    wpX_bringSmallest post (f_ready, sgn, f_rankNow, a_entries, a_rights, f, g) (nI k) := by
  -- one row
  have key1 : ∀ (J : Int32 → Int32 → Int64 → Int32 → Prop) (r : Nat), k ≤ r → r < 3 → (∀ y2 y3 y4, sm_sc k F (r + 1) k y2 y3 y4 → J y2 y3 y4 (nI (r + 1))) →
      ∀ (d c : Nat) (x2 x3 : Int32) (x4 : Int64), c + d = 3 → k ≤ c → sm_sc k F r c x2 x3 x4 →
      wX_bringSmallest_19 post J (nI k) (nI r) f_ready sgn f_rankNow a_entries a_rights f g (d + 1) x2 x3 x4 (nI c) := by
    intro J r hkr hr3 hJ d
    induction d with
    | zero =>
      intro c x2 x3 x4 hc hkc hs
      have : c = 3 := by omega
      subst this
      exact br_t (nI_le (a := 3) (b := 3) (by omega) (by omega)) (nm_r (nI_1 r) (hJ _ _ _ (sm_sc_row hs)))
    | succ d ih =>
      intro c x2 x3 x4 hc hkc hs
      have hc3 : c < 3 := by omega
      have e1 := sm_St_r h hr3 (show c < 4 by omega)
      have hrc := hr r c hkr hr3 hkc hc3
      have hi := sm_i4 hr3 (show c < 4 by omega)
      have hx : ∀ n : Nat, x4 = sm_w n → n ≤ 4611686018427387904 → (x4 = 0 ↔ n = 0) := fun n e hn => by rw [e, sm_w_eq0 (by omega)]; omega
      have hsz : ∃ n : Nat, x4 = sm_w n ∧ n ≤ 4611686018427387904 := by
        rcases hs with ⟨h1, h2, h3⟩ | ⟨row, col, h1, h2, h3, h4, h5, h6, h7⟩
        · exact ⟨0, by rw [h2]; exact sm_w_0.symm, by omega⟩
        · exact ⟨_, h3, Nat.le_of_lt (hr row col h4.1 h4.2.1 h4.2.2.1 h4.2.2.2)⟩
      obtain ⟨n, hn, hnle⟩ := hsz
      have huni : ∀ m : Nat, x4 = sm_w m → m ≤ 4611686018427387904 → m = n := fun m e hm => by
        have := congrArg Int64.toInt (e.symm.trans hn)
        rw [sm_w_toInt (by omega), sm_w_toInt (by omega)] at this; omega
      have step : wX_bringSmallest_70 post J (wX_bringSmallest_19 post J (nI k) (nI r) f_ready sgn f_rankNow a_entries a_rights f g (d + 1)) (nI k) x2 x3 x4 (nI r) (nI c) (sm_w (F r c).natAbs) f_ready sgn f_rankNow a_entries a_rights f g := by
        have hne0 : sm_w (F r c).natAbs = 0 ↔ F r c = 0 := by rw [sm_w_eq0 (by omega)]; omega
        refine br_c (fun z => ?_) (fun z => ?_)
        · exact nm_r (nI_1 c) (ih (c + 1) _ _ _ (by omega) (by omega) (sm_sc_skip hs (Or.inl (hne0.mp z)) hr))
        · have hne : F r c ≠ 0 := fun q => z (hne0.mpr q)
          refine br_c (fun y => ?_) (fun y => ?_)
          · exact nm_r (nI_1 c) (ih (c + 1) _ _ _ (by omega) (by omega) (sm_sc_take hs ⟨hkr, hr3, hkc, hc3⟩ hne (fun q => absurd y q) hr))
          · refine br_c (fun w => ?_) (fun w => ?_)
            · rw [hn, sm_w_lt (by omega) (by omega)] at w
              exact nm_r (nI_1 c) (ih (c + 1) _ _ _ (by omega) (by omega) (sm_sc_take hs ⟨hkr, hr3, hkc, hc3⟩ hne (fun _ m e hm => by have := huni m e hm; omega) hr))
            · rw [hn, sm_w_lt (by omega) (by omega)] at w
              exact nm_r (nI_1 c) (ih (c + 1) _ _ _ (by omega) (by omega) (sm_sc_skip hs (Or.inr ⟨y, fun m e hm => by have := huni m e hm; omega⟩) hr))
      refine br_f (nI_ge (b := 3) (a := c) (by omega) (by omega)) ⟨hi, ?_⟩
      rw [e1]
      refine br_c (fun z => ⟨hi, ?_⟩) (fun z => ⟨hi, ?_⟩)
      · rw [sm_w_le0 (by omega)] at z
        have e : F r c = ((F r c).natAbs : Int) := by omega
        rw [e]
        rw [e] at step
        simp only [Int.natAbs_natCast] at step
        exact step
      · rw [sm_w_le0 (by omega)] at z
        have e : -(sm_w (F r c)) = sm_w (F r c).natAbs := by rw [← sm_w_neg]; congr 1; omega
        rw [e]; exact step
  -- all rows
  have key2 : ∀ (d r : Nat) (x2 x3 : Int32) (x4 : Int64), r + d = 3 → k ≤ r → sm_sc k F r k x2 x3 x4 →
      wX_bringSmallest_10 post (nI k) f_ready sgn f_rankNow a_entries a_rights f g (d + 1) x2 x3 x4 (nI r) := by
    intro d
    induction d with
    | zero =>
      intro r x2 x3 x4 hrd hkr hs
      have : r = 3 := by omega
      subst this
      refine br_t (nI_le (a := 3) (b := 3) (by omega) (by omega)) ?_
      rcases hs with ⟨h1, h2, h3⟩ | ⟨row, col, h1, h2, h3, h4, h5, h6, h7⟩
      · subst h1
        exact br_f (by decide) (K0 fun r' c' a b c d => h3 r' c' ⟨a, b, c, d⟩ (Or.inl b))
      · subst h1 h2
        have hb : sm_brg k F row col := ⟨h4.1, h4.2.1, h4.2.2.1, h4.2.2.2, h6, fun r' c' a b c d hne => h7 r' c' ⟨a, b, c, d⟩ (Or.inl b) hne⟩
        have hrow := h4.2.1
        have hcol := h4.2.2.2
        have last : ∀ (f' : Nat → Int64) (sgn' : Int32), sm_St A (sm_zR row k F) f' g sgn' → wX_bringSmallest_136 post (nI k) (nI col) f_ready sgn' f_rankNow a_entries a_rights f' g := by
          intro f' sgn' hS
          refine br_c (fun z => ?_) (fun z => ?_)
          · rw [nI_eq (by omega) (by omega)] at z
            subst z
            refine K1 row col hb f' g sgn' ?_
            unfold sm_zz; rw [sm_zC_s]; exact hS
          · have hck : col ≠ k := fun q => z (by rw [q])
            exact sm_St_swapC hcol hk hck hS fun f'' g'' sgn'' hS' => K1 row col hb f'' g'' sgn'' hS'
        refine br_t (nI_pos' (by omega)) (br_c (fun z => ?_) (fun z => ?_))
        · rw [nI_eq (by omega) (by omega)] at z
          subst z
          refine last f sgn ?_
          rw [sm_zR_s]; exact h
        · have hrk : row ≠ k := fun q => z (by rw [q])
          exact sm_St_swapR hrow hk hrk h fun f' sgn' hS' => last f' sgn' hS'
    | succ d ih =>
      intro r x2 x3 x4 hrd hkr hs
      have hr3 : r < 3 := by omega
      refine br_f (nI_ge (b := 3) (a := r) (by omega) (by omega)) ⟨3 - k + 1, ?_⟩
      exact key1 _ r hkr hr3 (fun y2 y3 y4 hy => ih (r + 1) y2 y3 y4 (by omega) (by omega) hy) (3 - k) k x2 x3 x4 (by omega) (by omega) hs
  refine ⟨3 - k + 1, key2 (3 - k) k (-1) (-1) 0 (by omega) (by omega) (Or.inl ⟨rfl, rfl, fun r' c' hb hx => ?_⟩)⟩
  rcases hx with q | q
  · exact absurd hb.1 (by omega)
  · exact absurd hb.2.2.1 (by omega)
/-! the loop at one place -/
theorem sm_while {post : SX → Prop} {J : Int32 → Int32 → Int32 → Int32 → (Nat → Int32) → (Nat → Int32) → (Nat → Int64) → (Nat → Int64) → Prop} {k : Nat} (hk : k < 3) {Q Nx : (Nat → Nat → Int) → Prop} (hS : sm_Step k Q Nx)
    (K : ∀ F f g sgn, Nx F → sm_St A F f g sgn → J (nI (k + 1)) f_ready sgn f_rankNow a_entries a_rights f g) :
    ∀ (p : Nat) (F : Nat → Nat → Int) (f g : Nat → Int64) (sgn : Int32), (F k k).natAbs = p → Q F → sm_St A F f g sgn →
      ∀ n, p + 1 < n → wX_reduce_50 post J (nI k) n 1 f_ready sgn f_rankNow a_entries a_rights f g := by
  intro p
  induction p using Nat.strongRecOn with
  | _ p ih =>
    intro F f g sgn hp hQ hst n hn
    obtain ⟨s1, s2, s3, s4, s5, s6⟩ := hS F hQ
    obtain ⟨n, rfl⟩ : ∃ n', n = n' + 1 := ⟨n - 1, by omega⟩
    refine br_f (by decide) ?_
    refine sm_clearCol hk hst s1 s2 fun f1 h1 => ?_
    have ck : ∀ c, sm_cC k F k c = F k c := fun c => by
      rcases sm_k3 hk with rfl | rfl | rfl <;> rfl
    refine sm_clearRow hk h1 (by rw [ck]; exact s1) (by rw [ck]; exact s2 k k (by omega) hk (by omega) hk) (fun c a b => by rw [ck]; exact s2 k c (by omega) hk (by omega) b) fun f2 g2 h2 => ?_
    have h2' : sm_St A (sm_rd k F) f2 g2 sgn := h2
    have ekk : sm_rd k F k k = F k k := by rcases sm_k3 hk with rfl | rfl | rfl <;> rfl
    have again : ∀ (G : Nat → Nat → Int) (f3 g3 : Nat → Int64), sm_St A G f3 g3 sgn → sm_rng k G → G k k ≠ 0 → (∀ row col, sm_brg k G row col → Q (sm_zz k row col G) ∧ (G row col).natAbs < (F k k).natAbs) →
        wX_reduce_77 post J (wX_reduce_50 post J (nI k) n) (nI k) 1 f_ready sgn f_rankNow a_entries a_rights f3 g3 := by
      intro G f3 g3 h3 hrG hne hG
      refine br_f (by decide) (sm_bring hk h3 hrG (fun z => absurd (z k k (by omega) hk (by omega) hk) hne) fun row col hb f4 g4 sgn4 h4 => ?_)
      obtain ⟨q1, q2⟩ := hG row col hb
      have ezz : sm_zz k row col G k k = G row col := by
        have e : ∀ a, sm_sg a k k = a := fun a => by unfold sm_sg; split <;> simp_all
        show G (sm_sg row k k) (sm_sg col k k) = _
        rw [e, e]
      exact ih (G row col).natAbs (by omega) _ f4 g4 sgn4 (by rw [ezz]) q1 h4 n (by omega)
    refine sm_settled hk h2' (by rw [ekk]; exact s1) s3 (fun hc => ?_) (fun hc hd => ?_) (fun hc i hf f3 g3 h3 => ?_)
    · exact br_t rfl (again _ f2 g2 h2' s3 (by rw [ekk]; exact s1) (s5 hc))
    · refine br_f (by decide) (br_t rfl ?_)
      obtain ⟨n, rfl⟩ : ∃ n', n = n' + 1 := ⟨n - 1, by omega⟩
      exact br_t rfl (nm_r (nI_1 k) (K _ f2 g2 sgn (s4 hc hd) h2'))
    · obtain ⟨q1, q2⟩ := s6 hc i hf
      refine br_t rfl (again _ f3 g3 h3 q1 ?_ q2)
      have e : sm_add k i (sm_rd k F) k k = sm_rd k F k k + 1 * sm_rd k F i k := by
        have hi := hf.1
        unfold sm_add
        have : ∀ G : Nat → Nat → Int, sm_cR k G k k = G k k := fun G => by rcases sm_k3 hk with rfl | rfl | rfl <;> rfl
        rw [this]; unfold sm_aR; rw [if_pos rfl]
      rw [e, (hc i hf.1 hf.2.1).1, ekk]; omega
end
end
section
/-! fill and reduce -/
def sm_A (ent rig : Nat → Int32) : Nat → Nat → Int := fun r c => if c = 3 then (rig r).toInt else (ent (3 * r + c)).toInt
theorem sm_i64 (x : Int32) : x.toInt64 = sm_w x.toInt := by
  apply Int64.toInt_inj.mp
  have h1 := x.le_toInt
  have h2 := x.toInt_lt
  rw [Int32.toInt_toInt64, sm_w_toInt (by omega)]
section
variable {f_ready f_rankNow : Int32} {a_entries a_rights : Nat → Int32}
theorem sm_fill {post : SX → Prop} {f_sign : Int32} {f g : Nat → Int64}
    (K : ∀ f' g', sm_FI f' (sm_A a_entries a_rights) → sm_BI g' sm_I → post (f_ready, 1, f_rankNow, a_entries, a_rights, f', g')) :
    wpX_fill post (f_ready, f_sign, f_rankNow, a_entries, a_rights, f, g) := by
  have key1 : ∀ (J : Int32 → (Nat → Int32) → (Nat → Int32) → (Nat → Int64) → (Nat → Int64) → Prop) (r : Nat), r < 3 →
      (∀ f g, (∀ r' c', r' < r + 1 → c' < 4 → f (4 * r' + c') = sm_w (sm_A a_entries a_rights r' c')) → (∀ r' c', r' < r + 1 → c' < 3 → g (3 * r' + c') = sm_w (sm_I r' c')) → J (nI (r + 1)) a_entries a_rights f g) →
      ∀ (d c : Nat) (f g : Nat → Int64), c + d = 3 →
        (∀ r' c', (r' < r ∧ c' < 4) ∨ (r' = r ∧ c' < c) → f (4 * r' + c') = sm_w (sm_A a_entries a_rights r' c')) →
        (∀ r' c', (r' < r ∧ c' < 3) ∨ (r' = r ∧ c' < c) → g (3 * r' + c') = sm_w (sm_I r' c')) →
        wX_fill_9 post J (nI r) f_ready f_sign f_rankNow (d + 1) (nI c) a_entries a_rights f g := by
    intro J r hr hJ d
    induction d with
    | zero =>
      intro c f g hc hf hg
      have : c = 3 := by omega
      subst this
      have e : ((4 : Int32) * nI r + 3).toNatClampNeg = 4 * r + 3 := sm_cl4 hr (c := 3) (by omega)
      refine br_t (nI_le (a := 3) (b := 3) (by omega) (by omega)) ⟨vp_in_nI hr (by omega), sm_i4 hr (c := 3) (by omega), nm_e (nm_r (nI_1 r) (hJ _ _ (fun r' c' h1 h2 => ?_) (fun r' c' h1 h2 => hg r' c' (by omega))))⟩
      rw [e, nI_clamp (by omega), sm_i64]
      unfold vp_updL
      by_cases q : r' = r ∧ c' = 3
      · obtain ⟨rfl, rfl⟩ := q; rw [if_pos rfl]; rfl
      · rw [if_neg (by omega)]; exact hf r' c' (by omega)
    | succ d ih =>
      intro c f g hc hf hg
      have hc3 : c < 3 := by omega
      have hi3 := sm_i3 hr hc3
      refine br_f (nI_ge (b := 3) (a := c) (by omega) (by omega)) ⟨hi3, sm_i4 hr (by omega), nm_e ?_⟩
      rw [sm_cl4 hr (by omega), sm_cl3 hr hc3, sm_i64]
      have hf' : ∀ r' c', (r' < r ∧ c' < 4) ∨ (r' = r ∧ c' < c + 1) → vp_updL f (4 * r + c) (sm_w (a_entries (3 * r + c)).toInt) (4 * r' + c') = sm_w (sm_A a_entries a_rights r' c') := by
        intro r' c' hq
        unfold vp_updL
        by_cases q : r' = r ∧ c' = c
        · obtain ⟨rfl, rfl⟩ := q
          rw [if_pos rfl]; unfold sm_A; rw [if_neg (by omega)]
        · rw [if_neg (by omega)]; exact hf r' c' (by omega)
      have hg' : ∀ v : Int, v = sm_I r c → ∀ r' c', (r' < r ∧ c' < 3) ∨ (r' = r ∧ c' < c + 1) → vp_updL g (3 * r + c) (sm_w v) (3 * r' + c') = sm_w (sm_I r' c') := by
        intro v hv r' c' hq
        unfold vp_updL
        by_cases q : r' = r ∧ c' = c
        · obtain ⟨rfl, rfl⟩ := q
          rw [if_pos rfl, hv]
        · rw [if_neg (by omega)]; exact hg r' c' (by omega)
      refine br_c (fun z => ⟨hi3, ?_⟩) (fun z => ⟨hi3, ?_⟩)
      · rw [nI_eq (by omega) (by omega)] at z
        refine nm_e (nm_r (nI_1 c) ?_)
        rw [← sm_w_1]
        exact ih (c + 1) _ _ (by omega) hf' (hg' 1 (by unfold sm_I; rw [if_pos z]))
      · rw [nI_eq (by omega) (by omega)] at z
        refine nm_e (nm_r (nI_1 c) ?_)
        rw [← sm_w_0]
        exact ih (c + 1) _ _ (by omega) hf' (hg' 0 (by unfold sm_I; rw [if_neg z]))
  have key2 : ∀ (d r : Nat) (f g : Nat → Int64), r + d = 3 → (∀ r' c', r' < r → c' < 4 → f (4 * r' + c') = sm_w (sm_A a_entries a_rights r' c')) → (∀ r' c', r' < r → c' < 3 → g (3 * r' + c') = sm_w (sm_I r' c')) →
      wX_fill_2 post f_ready f_sign f_rankNow (d + 1) (nI r) a_entries a_rights f g := by
    intro d
    induction d with
    | zero =>
      intro r f g hr hf hg
      exact br_t (nI_le (a := 3) (b := r) (by omega) (by omega)) (K f g (fun r' c' h1 h2 => hf r' c' (by omega) h2) (fun r' c' h1 h2 => hg r' c' (by omega) h2))
    | succ d ih =>
      intro r f g hr hf hg
      refine br_f (nI_ge (b := 3) (a := r) (by omega) (by omega)) ⟨4, ?_⟩
      exact key1 _ r (by omega) (fun f' g' h1 h2 => ih (r + 1) f' g' (by omega) h1 h2) 3 0 f g (by omega)
        (fun r' c' h => hf r' c' (by omega) (by omega)) (fun r' c' h => hg r' c' (by omega) (by omega))
  exact ⟨4, key2 3 0 f g (by omega) (fun r' c' h => by omega) (fun r' c' h => by omega)⟩
/-- what reduce leaves -/
def sm_Dn (ent rig : Nat → Int32) (f g : Nat → Int64) (sgn rank : Int32) : Prop :=
  ∃ F V s rk, sm_Fin (sm_A ent rig) F V s rk ∧ sm_R63 F ∧ sm_FI f F ∧ sm_BI g V ∧ sgn = Int32.ofInt s ∧ rank = nI rk
theorem sm_rng_le {k : Nat} {F : Nat → Nat → Int} {M : Nat} (h : ∀ r c, k ≤ r → r < 3 → k ≤ c → c < 3 → (F r c).natAbs ≤ M) (hM : M < 4611686018427387904) : sm_rng k F :=
  fun r c a b d e => Nat.lt_of_le_of_lt (h r c a b d e) hM
theorem sm_reduce0 {post : SX → Prop} (h9 : sm_nine (sm_A a_entries a_rights)) {f_sign : Int32} {f g : Nat → Int64}
    (K : ∀ f' g' sgn rank, sm_Dn a_entries a_rights f' g' sgn rank → post (1, sgn, rank, a_entries, a_rights, f', g')) :
    wpX_reduce post (0, f_sign, f_rankNow, a_entries, a_rights, f, g) := by
  refine br_t rfl (sm_fill fun f' g' hf hg => ⟨4, ?_⟩)
  have hst : sm_St (sm_A a_entries a_rights) (sm_A a_entries a_rights) f' g' 1 := ⟨sm_I, 1, hf, hg, sm_Rch_0 _, by decide⟩
  -- place 3: the end
  have p3 : ∀ (n : Nat) (F : Nat → Nat → Int) (f g : Nat → Int64) (sgn : Int32), sm_Q2 F → sm_St (sm_A a_entries a_rights) F f g sgn → wX_reduce_24 post (n + 1) (nI 3) 1 sgn (nI 3) a_entries a_rights f g := by
    intro n F f g sgn hQ hS
    obtain ⟨V, s, a, b, c, d⟩ := hS
    obtain ⟨q1, q2⟩ := sm_f3 c hQ
    exact br_t (nI_le (a := 3) (b := 3) (by omega) (by omega)) (K f g sgn _ ⟨F, V, s, 3, q1, q2, a, b, d, rfl⟩)
  have p2 : ∀ (n : Nat) (F : Nat → Nat → Int) (f g : Nat → Int64) (sgn : Int32), sm_N1 F → sm_St (sm_A a_entries a_rights) F f g sgn → wX_reduce_24 post (n + 2) (nI 2) 1 sgn (nI 2) a_entries a_rights f g := by
    intro n F f g sgn hN hS
    refine br_f (nI_ge (b := 3) (a := 2) (by omega) (by omega)) (sm_bring (k := 2) (by omega) hS (sm_rng_le (M := 20000) (fun r c a b d e => ?_) (by omega)) (fun hz => ?_) (fun row col hb f1 g1 sgn1 h1 => ?_))
    · have : r = 2 := by omega
      have : c = 2 := by omega
      subst r c; exact hN.2.2.1.2.2.2
    · obtain ⟨V, s, a, b, c, d⟩ := hS
      obtain ⟨q1, q2⟩ := sm_f2 c hN hz
      exact br_t rfl (K f g sgn _ ⟨F, V, s, 2, q1, q2, a, b, d, rfl⟩)
    · obtain ⟨rfl, rfl, hQ⟩ := sm_b2 hN hb
      have e : sm_zz 2 2 2 F = F := by unfold sm_zz; rw [sm_zC_s, sm_zR_s]
      rw [e] at h1
      refine br_f (by decide) (nm_r (nI_1 2) ⟨(F 2 2).natAbs + 2, ?_⟩)
      exact sm_while (by omega) sm_step2 (fun F f g sgn hQ hS => p3 n F f g sgn hQ hS) _ F f1 g1 sgn1 rfl hQ h1 _ (by omega)
  have p1 : ∀ (n : Nat) (F : Nat → Nat → Int) (f g : Nat → Int64) (sgn : Int32), sm_N0 F → sm_St (sm_A a_entries a_rights) F f g sgn → wX_reduce_24 post (n + 3) (nI 1) 1 sgn (nI 1) a_entries a_rights f g := by
    intro n F f g sgn hN hS
    refine br_f (nI_ge (b := 3) (a := 1) (by omega) (by omega)) (sm_bring (k := 1) (by omega) hS (sm_rng_le (M := 6000) (fun r c a b d e => hN.2.2.2.2.2.2.1 r c a b d e) (by omega)) (fun hz => ?_) (fun row col hb f1 g1 sgn1 h1 => ?_))
    · obtain ⟨V, s, a, b, c, d⟩ := hS
      obtain ⟨q1, q2⟩ := sm_f1 c hN hz
      exact br_t rfl (K f g sgn _ ⟨F, V, s, 1, q1, q2, a, b, d, rfl⟩)
    · refine br_f (by decide) (nm_r (nI_1 1) ⟨(sm_zz 1 row col F 1 1).natAbs + 2, ?_⟩)
      exact sm_while (by omega) sm_step1 (fun F f g sgn hQ hS => p2 n F f g sgn hQ hS) _ _ f1 g1 sgn1 rfl (sm_b1 hN hb) h1 _ (by omega)
  refine br_f (nI_ge (b := 3) (a := 0) (by omega) (by omega)) (sm_bring (k := 0) (by omega) hst (sm_rng_le (M := 9) (fun r c a b d e => h9 r c b (by omega)) (by omega)) (fun hz => ?_) (fun row col hb f1 g1 sgn1 h1 => ?_))
  · obtain ⟨V, s, a, b, c, d⟩ := hst
    obtain ⟨q1, q2⟩ := sm_f0 c h9 hz
    exact br_t rfl (K f' g' 1 _ ⟨_, V, s, 0, q1, q2, a, b, d, rfl⟩)
  · refine br_f (by decide) (nm_r (nI_1 0) ⟨(sm_zz 0 row col (sm_A a_entries a_rights) 0 0).natAbs + 2, ?_⟩)
    exact sm_while (by omega) sm_step0 (fun F f g sgn hQ hS => p1 0 F f g sgn hQ hS) _ _ f1 g1 sgn1 rfl (sm_b0 h9 hb) h1 _ (by omega)
/-- reduce, whatever stands there -/
theorem sm_reduce {post : SX → Prop} (h9 : sm_nine (sm_A a_entries a_rights)) {f_sign : Int32} {f g : Nat → Int64} (hI : f_ready = 0 ∨ (f_ready = 1 ∧ sm_Dn a_entries a_rights f g f_sign f_rankNow))
    (K : ∀ f' g' sgn rank, sm_Dn a_entries a_rights f' g' sgn rank → post (1, sgn, rank, a_entries, a_rights, f', g')) :
    wpX_reduce post (f_ready, f_sign, f_rankNow, a_entries, a_rights, f, g) := by
  rcases hI with rfl | ⟨rfl, hD⟩
  · exact sm_reduce0 h9 K
  · exact br_f (by decide) (K f g _ _ hD)
end
end
section
/-! the reference: common divisors and minors -/
def sm_u (z : Int) : Int32 := Int32.ofInt z
theorem sm_u_add (a b : Int) : sm_u (a + b) = sm_u a + sm_u b := Int32.ofInt_add a b
theorem sm_u_sub (a b : Int) : sm_u (a - b) = sm_u a - sm_u b := Int32.ofInt_sub a b
theorem sm_u_mul (a b : Int) : sm_u (a * b) = sm_u a * sm_u b := Int32.ofInt_mul a b
theorem sm_u_toInt {a : Int} (h : a.natAbs ≤ 2147483647) : (sm_u a).toInt = a := Int32.toInt_ofInt_of_le (by omega) (by omega)
theorem sm_u_nat (n : Nat) : sm_u (n : Int) = nI n := Int32.ofInt_eq_ofNat
theorem sm_u_0 : sm_u 0 = 0 := by decide
theorem sm_u_of (x : Int32) : sm_u x.toInt = x := Int32.ofInt_toInt x
/-- the reference's numbers are those of A -/
def sm_yn (num : Nat → Int32) (A : Nat → Nat → Int) : Prop := ∀ r c, r < 3 → c < 4 → num (4 * r + c) = sm_u (A r c)
theorem sm_irem {a d : Nat} (ha : a < 2 ^ 31) (h0 : 0 < d) (hd : d < 2 ^ 31) : nI a - nI a / nI d * nI d = nI (a % d) ∧ nI a / nI d = nI (a / d) := by
  have e : nI a / nI d = nI (a / d) := by
    apply Int32.toInt_inj.mp
    rw [lg_idiv_nonneg (by rw [nI_toInt ha]; omega) (by rw [nI_toInt hd]; omega), nI_toInt ha, nI_toInt hd, nI_toInt (Nat.lt_of_le_of_lt (Nat.div_le_self a d) ha)]
    first | rfl | exact (Int.natCast_ediv _ _).symm
  refine ⟨?_, e⟩
  rw [e, sm_nm]
  have h1 := Nat.div_add_mod' a d
  have h2 : nI a = nI (a / d * d) + nI (a % d) := by rw [nI_add, h1]
  rw [h2, Int32.add_comm, Int32.add_sub_cancel]
section
variable {num img : Nat → Int32} {A : Nat → Nat → Int}
theorem sm_ycom25 {post : Int32 → Prop} : ∀ (p q : Nat), p < 2 ^ 31 → q < 2 ^ 31 → post (nI (Nat.gcd p q)) → ∀ n, p < n → wY_common_25 post num img n (nI p) (nI q) := by
  intro p
  induction p using Nat.strongRecOn with
  | _ p ih =>
    intro q hp hq K n hn
    obtain ⟨n, rfl⟩ : ∃ n', n = n' + 1 := ⟨n - 1, by omega⟩
    by_cases h : p = 0
    · subst h
      rw [Nat.gcd_zero_left] at K
      exact br_t rfl K
    · have hne : ¬ nI p = 0 := nI_ne0 (by omega) hp
      have hlt : q % p < p := Nat.mod_lt _ (by omega)
      refine br_f hne ⟨hne, nm_r (sm_irem hq (by omega) hp).1 ?_⟩
      refine ih (q % p) hlt p (by omega) hp ?_ n (by omega)
      rwa [Nat.gcd_rec] at K
theorem sm_yabs {x : Int} (h : x.natAbs ≤ 2147483647) : (0 ≤ sm_u x → sm_u x = nI x.natAbs) ∧ (¬ 0 ≤ sm_u x → 0 - sm_u x = nI x.natAbs) := by
  have e : (0 : Int32) ≤ sm_u x ↔ 0 ≤ x := by rw [Int32.le_iff_toInt_le, sm_u_toInt h, show (0 : Int32).toInt = 0 from by decide]
  constructor
  · intro z; rw [← sm_u_nat]; congr 1; have := e.mp z; omega
  · intro z
    rw [← sm_u_nat, show (0 : Int32) = sm_u 0 from sm_u_0.symm, ← sm_u_sub]; congr 1
    have : ¬ 0 ≤ x := fun q => z (e.mpr q)
    omega
theorem sm_ycom {post : Int32 → Prop} {a b : Int} (ha : a.natAbs ≤ 2147483647) (hb : b.natAbs ≤ 2147483647) (K : post (nI (Nat.gcd a.natAbs b.natAbs))) : wpY_common post (num, img) (sm_u a) (sm_u b) := by
  have k1 : wY_common_11 post (sm_u b) (nI a.natAbs) num img := by
    refine br_c (fun z => ⟨a.natAbs + 1, ?_⟩) (fun z => nm_r ((sm_yabs hb).2 z) ⟨a.natAbs + 1, ?_⟩)
    · rw [(sm_yabs hb).1 z]; exact sm_ycom25 _ _ (by omega) (by omega) K _ (by omega)
    · exact sm_ycom25 _ _ (by omega) (by omega) K _ (by omega)
  refine br_c (fun z => ?_) (fun z => ?_)
  · rw [(sm_yabs ha).1 z]; exact k1
  · rw [(sm_yabs ha).2 z]; exact k1
theorem sm_yr (h : sm_yn num A) {r c : Nat} (hr : r < 3) (hc : c < 4) : num ((4 : Int32) * nI r + nI c).toNatClampNeg = sm_u (A r c) := by rw [sm_cl4 hr hc]; exact h r c hr hc
theorem sm_ytwo (h : sm_yn num A) {post : Int32 → Prop} {r s c d : Nat} (hr : r < 3) (hs : s < 3) (hc : c < 4) (hd : d < 4) (K : post (sm_u (sm_m2 A r s c d))) : wpY_two post (num, img) (nI r) (nI s) (nI c) (nI d) := by
  refine ⟨sm_i4 hr hc, sm_i4 hs hd, sm_i4 hr hd, sm_i4 hs hc, ?_⟩
  rw [sm_yr h hr hc, sm_yr h hs hd, sm_yr h hr hd, sm_yr h hs hc, ← sm_u_mul, ← sm_u_mul, ← sm_u_sub]; exact K
theorem sm_y0 (h : sm_yn num A) {c : Nat} (hc : c < 4) : num (nI c).toNatClampNeg = sm_u (A 0 c) := by
  rw [nI_clamp (by omega)]; have := h 0 c (by omega) hc; rwa [Nat.mul_zero, Nat.zero_add] at this
theorem sm_ythree (h : sm_yn num A) {post : Int32 → Prop} {c d e : Nat} (hc : c < 4) (hd : d < 4) (he : e < 4) (K : post (sm_u (sm_m3 A c d e))) : wpY_three post (num, img) (nI c) (nI d) (nI e) := by
  refine ⟨vp_in_nI (by omega) (by omega), ?_⟩
  refine sm_ytwo h (r := 1) (s := 2) (by omega) (by omega) hd he ⟨vp_in_nI (by omega) (by omega), ?_⟩
  refine sm_ytwo h (r := 1) (s := 2) (by omega) (by omega) hc he ⟨vp_in_nI (by omega) (by omega), ?_⟩
  refine sm_ytwo h (r := 1) (s := 2) (by omega) (by omega) hc hd ?_
  rw [sm_y0 h hc, sm_y0 h hd, sm_y0 h he, ← sm_u_mul, ← sm_u_mul, ← sm_u_mul, ← sm_u_sub, ← sm_u_add]; exact K
/-! divisibility by a common divisor -/
theorem sm_gdv {g : Int} {a b : Nat} : g ∣ ((Nat.gcd a b : Nat) : Int) ↔ g ∣ (a : Int) ∧ g ∣ (b : Int) := by
  rw [Int.ofNat_dvd_right, Int.ofNat_dvd_right, Int.ofNat_dvd_right, Nat.dvd_gcd_iff]
theorem sm_gdvA {g x : Int} {a : Nat} : g ∣ ((Nat.gcd a x.natAbs : Nat) : Int) ↔ g ∣ (a : Int) ∧ g ∣ x := by
  rw [sm_gdv, Int.dvd_natAbs]
theorem sm_gle {a b : Nat} (ha : a ≤ 5000) (hb : b ≤ 5000) : Nat.gcd a b ≤ 5000 := by
  by_cases h : a = 0
  · subst h; rw [Nat.gcd_zero_left]; exact hb
  · exact Nat.le_trans (Nat.gcd_le_left b (by omega)) ha
/-- one step of a running common divisor -/
theorem sm_ystep {post : Int32 → Prop} {G : Nat} {x : Int} (hG : G ≤ 5000) (hx : x.natAbs ≤ 5000) (K : post (nI (Nat.gcd G x.natAbs))) : wpY_common post (num, img) (nI G) (sm_u x) := by
  rw [← sm_u_nat]
  exact sm_ycom (by omega) (by omega) (by rw [Int.natAbs_natCast]; exact K)
theorem sm_m2_9 (h : sm_nine A) {i j k l : Nat} (hi : i < 3) (hj : j < 3) (hk : k < 4) (hl : l < 4) : (sm_m2 A i j k l).natAbs ≤ 162 := by
  unfold sm_m2; exact sm_n2 (sm_nmul (h i k hi hk) (h j l hj hl)) (sm_nmul (h i l hi hl) (h j k hj hk))
/-! the end of divisor: sizes 0, and 3 -/
theorem sm_y195p {post : Int32 → Prop} {k n G : Nat} (hk : k < 3) (K : post (nI G)) : wY_divisor_195 post (nI k) (nI n) num img 1 (nI G) 0 := by
  refine br_f (fun z => ?_) K
  have := (nI_eq (a := k) (b := 3) (by omega) (by omega)).mp z
  omega
theorem sm_y55p {post : Int32 → Prop} {k n G : Nat} (hk : k < 4) (hk2 : k ≠ 2) (K : ∃ m, wY_divisor_195 post (nI k) (nI n) num img m (nI G) 0) : wY_divisor_55 post (nI k) (nI n) num img 1 (nI G) 0 := by
  refine br_f (fun z => ?_) K
  have := (nI_eq (a := k) (b := 2) (by omega) (by omega)).mp z
  omega
theorem sm_y13p {post : Int32 → Prop} {k n G : Nat} (hk : k < 4) (hk2 : k ≠ 1) (K : ∃ m, wY_divisor_55 post (nI k) (nI n) num img m (nI G) 0) : wY_divisor_13 post (nI k) (nI n) num img 1 (nI G) 0 := by
  refine br_f (fun z => ?_) K
  have := (nI_eq (a := k) (b := 1) (by omega) (by omega)).mp z
  omega
/-- size 0 -/
theorem sm_ydiv0 (n : Nat) : ∃ G : Nat, sm_isG 0 n A G ∧ G ≤ 5000 ∧ ∀ post : Int32 → Prop, post (nI G) → wpY_divisor post (num, img) (nI 0) (nI n) := by
  refine ⟨1, ⟨by omega, fun g => sm_DD_0.symm⟩, by omega, fun post K => ?_⟩
  refine br_t rfl ⟨1, ?_⟩
  exact sm_y13p (k := 0) (G := 1) (by omega) (by omega) ⟨1, sm_y55p (by omega) (by omega) ⟨1, sm_y195p (by omega) K⟩⟩
/-- size 1 -/
theorem sm_ydiv1 (h : sm_yn num A) (h9 : sm_nine A) {n : Nat} (hn : n ≤ 4) : ∃ G : Nat, sm_isG 1 n A G ∧ G ≤ 5000 ∧ ∀ post : Int32 → Prop, post (nI G) → wpY_divisor post (num, img) (nI 1) (nI n) := by
  have key : ∀ (d i G : Nat), i + d = 12 → G ≤ 5000 → (∀ g : Int, g ∣ (G : Int) ↔ ∀ j, j < i → j % 4 < n → g ∣ A (j / 4) (j % 4)) →
      ∃ G' : Nat, G' ≤ 5000 ∧ (∀ g : Int, g ∣ (G' : Int) ↔ ∀ j, j < 12 → j % 4 < n → g ∣ A (j / 4) (j % 4)) ∧
        ∀ post : Int32 → Prop, post (nI G') → wY_divisor_13 post (nI 1) (nI n) num img (d + 1) (nI G) (nI i) := by
    intro d
    induction d with
    | zero =>
      intro i G hi hG hg
      have : i = 12 := by omega
      subst this
      exact ⟨G, hG, hg, fun post K => br_t rfl (br_t (nI_le (a := 12) (b := 12) (by omega) (by omega)) ⟨1, sm_y55p (by omega) (by omega) ⟨1, sm_y195p (by omega) K⟩⟩)⟩
    | succ d ih =>
      intro i G hi hG hg
      have hne : ¬ (12 : Int32) ≤ nI i := nI_ge (b := 12) (by omega) (by omega)
      have er : nI i - nI i / 4 * 4 = nI (i % 4) := (sm_irem (a := i) (d := 4) (by omega) (by omega) (by omega)).1
      by_cases hc : i % 4 < n
      · have hx := h9 (i / 4) (i % 4) (by omega) (by omega)
        obtain ⟨G', a, b, c⟩ := ih (i + 1) (Nat.gcd G (A (i / 4) (i % 4)).natAbs) (by omega) (sm_gle hG (by omega)) (by
          intro g
          rw [sm_gdvA, hg g]
          constructor
          · rintro ⟨p, q⟩ j hj hjn
            by_cases e : j = i
            · subst e; exact q
            · exact p j (by omega) hjn
          · intro p; exact ⟨fun j hj => p j (by omega), p i (by omega) hc⟩)
        refine ⟨G', a, b, fun post K => br_t rfl (br_f hne ⟨by decide, ?_⟩)⟩
        rw [er]
        refine br_f (nI_ge hc (by omega)) ⟨vp_in_nI (by omega) (by omega), ?_⟩
        have en : num (nI i).toNatClampNeg = sm_u (A (i / 4) (i % 4)) := by
          rw [nI_clamp (by omega)]
          have := h (i / 4) (i % 4) (by omega) (by omega)
          rwa [show 4 * (i / 4) + i % 4 = i from by omega] at this
        rw [en]
        exact sm_ystep hG (by omega) (nm_r (nI_1 i) (c post K))
      · obtain ⟨G', a, b, c⟩ := ih (i + 1) G (by omega) hG (by
          intro g
          rw [hg g]
          constructor
          · intro p j hj hjn
            by_cases e : j = i
            · subst e; exact absurd hjn hc
            · exact p j (by omega) hjn
          · intro p j hj; exact p j (by omega))
        refine ⟨G', a, b, fun post K => br_t rfl (br_f hne ⟨by decide, ?_⟩)⟩
        rw [er]
        exact br_t (nI_le (by omega) (by omega)) (nm_r (nI_1 i) (c post K))
  obtain ⟨G, a, b, c⟩ := key 12 0 0 (by omega) (by omega) (fun g => ⟨fun _ j hj => by omega, fun _ => Int.dvd_zero _⟩)
  refine ⟨G, ⟨by omega, fun g => ?_⟩, a, fun post K => br_f (by decide) ⟨13, c post K⟩⟩
  rw [b g, sm_DD_1]
  constructor
  · intro p i k hi hk
    have := p (4 * i + k) (by omega) (by omega)
    rwa [show (4 * i + k) / 4 = i from by omega, show (4 * i + k) % 4 = k from by omega] at this
  · intro p j hj hjn; exact p _ _ (by omega) hjn
end
end
section
section
variable {num img : Nat → Int32} {A : Nat → Nat → Int}
theorem sm_y160 {post : Int32 → Prop} {J : Int32 → Int32 → Prop} {k n G i : Nat} {a b e : Int} (hG : G ≤ 5000) (ha : a.natAbs ≤ 5000) (hb : b.natAbs ≤ 5000) (he : e.natAbs ≤ 5000)
    (K : J (nI (Nat.gcd (Nat.gcd (Nat.gcd G a.natAbs) b.natAbs) e.natAbs)) (nI (i + 1))) : wY_divisor_160 post J (nI k) (nI n) (nI G) (nI i) (sm_u a) (sm_u b) (sm_u e) num img := by
  refine sm_ystep hG ha ?_
  refine sm_ystep (sm_gle hG ha) hb ?_
  exact sm_ystep (sm_gle (sm_gle hG ha) hb) he (nm_r (nI_1 i) K)
theorem sm_y97z {post : Int32 → Prop} {J : Int32 → Int32 → Prop} {k n G i : Nat} {c d : Int32} (hG : G ≤ 5000)
    (K : J (nI G) (nI (i + 1))) : wY_divisor_97 post J (nI k) (nI n) (nI G) (nI i) c d 0 num img := by
  refine br_t rfl (br_t rfl (br_t rfl ?_))
  rw [← sm_u_0]
  refine sm_y160 hG (by omega) (by omega) (by omega) ?_
  have e : Nat.gcd (Nat.gcd (Nat.gcd G (0 : Int).natAbs) (0 : Int).natAbs) (0 : Int).natAbs = G := by
    show Nat.gcd (Nat.gcd (Nat.gcd G 0) 0) 0 = G
    rw [Nat.gcd_zero_right, Nat.gcd_zero_right, Nat.gcd_zero_right]
  rw [e]; exact K
theorem sm_y97o (h : sm_yn num A) (h9 : sm_nine A) {post : Int32 → Prop} {J : Int32 → Int32 → Prop} {k n G i c d : Nat} (hc : c < 4) (hd : d < 4) (hG : G ≤ 5000)
    (K : J (nI (Nat.gcd (Nat.gcd (Nat.gcd G (sm_m2 A 0 1 c d).natAbs) (sm_m2 A 0 2 c d).natAbs) (sm_m2 A 1 2 c d).natAbs)) (nI (i + 1))) : wY_divisor_97 post J (nI k) (nI n) (nI G) (nI i) (nI c) (nI d) 1 num img := by
  have b1 := sm_m2_9 h9 (i := 0) (j := 1) (by omega) (by omega) hc hd
  have b2 := sm_m2_9 h9 (i := 0) (j := 2) (by omega) (by omega) hc hd
  have b3 := sm_m2_9 h9 (i := 1) (j := 2) (by omega) (by omega) hc hd
  refine br_f (by decide) (sm_ytwo h (r := 0) (s := 1) (by omega) (by omega) hc hd ?_)
  refine br_f (by decide) (sm_ytwo h (r := 0) (s := 2) (by omega) (by omega) hc hd ?_)
  refine br_f (by decide) (sm_ytwo h (r := 1) (s := 2) (by omega) (by omega) hc hd ?_)
  exact sm_y160 hG (by omega) (by omega) (by omega) K
/-- size 2 -/
theorem sm_ydiv2 (h : sm_yn num A) (h9 : sm_nine A) {n : Nat} (hn : n ≤ 4) : ∃ G : Nat, sm_isG 2 n A G ∧ G ≤ 5000 ∧ ∀ post : Int32 → Prop, post (nI G) → wpY_divisor post (num, img) (nI 2) (nI n) := by
  have key : ∀ (d i G : Nat), i + d = 16 → G ≤ 5000 →
      (∀ g : Int, g ∣ (G : Int) ↔ ∀ j, j < i → j / 4 < j % 4 → j % 4 < n → g ∣ sm_m2 A 0 1 (j / 4) (j % 4) ∧ g ∣ sm_m2 A 0 2 (j / 4) (j % 4) ∧ g ∣ sm_m2 A 1 2 (j / 4) (j % 4)) →
      ∃ G' : Nat, G' ≤ 5000 ∧ (∀ g : Int, g ∣ (G' : Int) ↔ ∀ j, j < 16 → j / 4 < j % 4 → j % 4 < n → g ∣ sm_m2 A 0 1 (j / 4) (j % 4) ∧ g ∣ sm_m2 A 0 2 (j / 4) (j % 4) ∧ g ∣ sm_m2 A 1 2 (j / 4) (j % 4)) ∧
        ∀ post : Int32 → Prop, post (nI G') → wY_divisor_55 post (nI 2) (nI n) num img (d + 1) (nI G) (nI i) := by
    intro d
    induction d with
    | zero =>
      intro i G hi hG hg
      have : i = 16 := by omega
      subst this
      exact ⟨G, hG, hg, fun post K => br_t rfl (br_t (nI_le (a := 16) (b := 16) (by omega) (by omega)) ⟨1, sm_y195p (by omega) K⟩)⟩
    | succ d ih =>
      intro i G hi hG hg
      have hne : ¬ (16 : Int32) ≤ nI i := nI_ge (b := 16) (by omega) (by omega)
      have er : nI i - nI i / 4 * 4 = nI (i % 4) := (sm_irem (a := i) (d := 4) (by omega) (by omega) (by omega)).1
      have eq : nI i / 4 = nI (i / 4) := (sm_irem (a := i) (d := 4) (by omega) (by omega) (by omega)).2
      by_cases hc : i / 4 < i % 4 ∧ i % 4 < n
      · have b1 := sm_m2_9 h9 (i := 0) (j := 1) (k := i / 4) (l := i % 4) (by omega) (by omega) (by omega) (by omega)
        have b2 := sm_m2_9 h9 (i := 0) (j := 2) (k := i / 4) (l := i % 4) (by omega) (by omega) (by omega) (by omega)
        have b3 := sm_m2_9 h9 (i := 1) (j := 2) (k := i / 4) (l := i % 4) (by omega) (by omega) (by omega) (by omega)
        obtain ⟨G', a, b, c⟩ := ih (i + 1) (Nat.gcd (Nat.gcd (Nat.gcd G (sm_m2 A 0 1 (i / 4) (i % 4)).natAbs) (sm_m2 A 0 2 (i / 4) (i % 4)).natAbs) (sm_m2 A 1 2 (i / 4) (i % 4)).natAbs)
          (by omega) (sm_gle (sm_gle (sm_gle hG (by omega)) (by omega)) (by omega)) (by
          intro g
          rw [sm_gdvA, sm_gdvA, sm_gdvA, hg g]
          constructor
          · rintro ⟨⟨⟨p, q1⟩, q2⟩, q3⟩ j hj hjn hjm
            by_cases e : j = i
            · subst e; exact ⟨q1, q2, q3⟩
            · exact p j (by omega) hjn hjm
          · intro p
            have q := p i (by omega) hc.1 hc.2
            exact ⟨⟨⟨fun j hj => p j (by omega), q.1⟩, q.2.1⟩, q.2.2⟩)
        refine ⟨G', a, b, fun post K => br_t rfl (br_f hne ⟨by decide, nm_r eq ⟨by decide, nm_r er ?_⟩⟩)⟩
        refine br_f (nI_ge hc.1 (by omega)) (br_f (nI_ge hc.2 (by omega)) ?_)
        exact sm_y97o h h9 (by omega) (by omega) hG (c post K)
      · obtain ⟨G', a, b, c⟩ := ih (i + 1) G (by omega) hG (by
          intro g
          rw [hg g]
          constructor
          · intro p j hj hjn hjm
            by_cases e : j = i
            · subst e; exact absurd ⟨hjn, hjm⟩ hc
            · exact p j (by omega) hjn hjm
          · intro p j hj; exact p j (by omega))
        refine ⟨G', a, b, fun post K => br_t rfl (br_f hne ⟨by decide, nm_r eq ⟨by decide, nm_r er ?_⟩⟩)⟩
        by_cases q : i % 4 ≤ i / 4
        · exact br_t (nI_le q (by omega)) (sm_y97z hG (c post K))
        · exact br_f (nI_ge (by omega) (by omega)) (br_t (nI_le (by omega) (by omega)) (sm_y97z hG (c post K)))
  obtain ⟨G, a, b, c⟩ := key 16 0 0 (by omega) (by omega) (fun g => ⟨fun _ j hj => by omega, fun _ => Int.dvd_zero _⟩)
  refine ⟨G, ⟨by omega, fun g => ?_⟩, a, fun post K => br_f (by decide) ⟨1, sm_y13p (k := 2) (G := 0) (by omega) (by omega) ⟨17, c post K⟩⟩⟩
  rw [b g, sm_DD_2]
  constructor
  · intro p
    have base : ∀ i j k l, i < j → j < 3 → k < l → l < n → g ∣ sm_m2 A i j k l := by
      intro i j k l hij hj hkl hl
      have q := p (4 * k + l) (by omega) (by omega) (by omega)
      rw [show (4 * k + l) / 4 = k from by omega, show (4 * k + l) % 4 = l from by omega] at q
      rcases sm_pair hij hj with ⟨rfl, rfl⟩ | ⟨rfl, rfl⟩ | ⟨rfl, rfl⟩
      · exact q.1
      · exact q.2.1
      · exact q.2.2
    have base2 : ∀ i j k l, i < j → j < 3 → k < n → l < n → g ∣ sm_m2 A i j k l := by
      intro i j k l hij hj hk hl
      rcases Nat.lt_trichotomy k l with z | z | z
      · exact base i j k l hij hj z hl
      · subst z; have : sm_m2 A i j k k = 0 := by unfold sm_m2; grind
        rw [this]; exact Int.dvd_zero _
      · have e : sm_m2 A i j k l = - sm_m2 A i j l k := by unfold sm_m2; grind
        rw [e]; exact Int.dvd_neg.mpr (base i j l k hij hj z hk)
    intro i j k l hi hj hk hl
    rcases Nat.lt_trichotomy i j with z | z | z
    · exact base2 i j k l z hj hk hl
    · subst z; have : sm_m2 A i i k l = 0 := by unfold sm_m2; grind
      rw [this]; exact Int.dvd_zero _
    · have e : sm_m2 A i j k l = - sm_m2 A j i k l := by unfold sm_m2; grind
      rw [e]; exact Int.dvd_neg.mpr (base2 j i k l z hi hk hl)
  · intro p j hj hjn hjm
    exact ⟨p 0 1 _ _ (by omega) (by omega) (by omega) hjm, p 0 2 _ _ (by omega) (by omega) (by omega) hjm, p 1 2 _ _ (by omega) (by omega) (by omega) hjm⟩
/-- one minor of size 3 -/
theorem sm_y242 (h : sm_yn num A) (h9 : sm_nine A) {post : Int32 → Prop} {J : Int32 → Int32 → Prop} {n G i c d e : Nat} (hc : c < 4) (hd : d < 4) (he : e < 4) (hn : n ≤ 4) (hG : G ≤ 5000)
    (K : J (nI (Nat.gcd G (if e < n then sm_m3 A c d e else 0).natAbs)) (nI (i + 1))) : wY_divisor_242 post J (nI 3) (nI n) (nI G) (nI i) (nI c) (nI d) (nI e) num img := by
  by_cases q : e < n
  · rw [if_pos q] at K
    have b := sm_m3_9 h9 hc hd he
    exact br_f (nI_ge q (by omega)) (sm_ythree h hc hd he (sm_ystep hG (by omega) (nm_r (nI_1 i) K)))
  · rw [if_neg q] at K
    refine br_t (nI_le (by omega) (by omega)) ?_
    rw [← sm_u_0]
    exact sm_ystep hG (by omega) (nm_r (nI_1 i) K)
theorem sm_ydiv3 (h : sm_yn num A) (h9 : sm_nine A) {n : Nat} (hn : n ≤ 4) (hn3 : 3 ≤ n) : ∃ G : Nat, sm_isG 3 n A G ∧ G ≤ 5000 ∧ ∀ post : Int32 → Prop, post (nI G) → wpY_divisor post (num, img) (nI 3) (nI n) := by
  have hle : ∀ c d e, c < 4 → d < 4 → e < 4 → (if e < n then sm_m3 A c d e else 0).natAbs ≤ 5000 := fun c d e hc hd he => by
    split
    · exact Nat.le_trans (sm_m3_9 h9 hc hd he) (by omega)
    · decide
  have G0 := sm_gle (a := 0) (by omega) (hle 1 2 3 (by omega) (by omega) (by omega))
  have G1 := sm_gle G0 (hle 0 2 3 (by omega) (by omega) (by omega))
  have G2 := sm_gle G1 (hle 0 1 3 (by omega) (by omega) (by omega))
  have G3 := sm_gle G2 (hle 0 1 2 (by omega) (by omega) (by omega))
  refine ⟨_, ⟨by omega, fun g => ?_⟩, G3, fun post K => ?_⟩
  · rw [sm_gdvA, sm_gdvA, sm_gdvA, sm_gdvA, sm_DD_3, if_pos (show 2 < n by omega)]
    constructor
    · rintro ⟨⟨⟨⟨-, q1⟩, q2⟩, q3⟩, q4⟩
      have h3 := (sm_D3_3 A g).mpr q4
      by_cases e : n = 3
      · subst e; exact h3
      · have : n = 4 := by omega
        subst this
        rw [if_pos (by omega)] at q1 q2 q3
        refine (sm_D3_4 A g).mpr ⟨h3, fun c d hc hd => ?_⟩
        have z : ∀ c, sm_m3 A c c 3 = 0 := fun c => by unfold sm_m3; grind
        have s : ∀ c d, sm_m3 A c d 3 = - sm_m3 A d c 3 := fun c d => by unfold sm_m3; grind
        rcases sm_k3 hc with rfl | rfl | rfl <;> rcases sm_k3 hd with rfl | rfl | rfl
        · rw [z]; exact Int.dvd_zero _
        · exact q3
        · exact q2
        · rw [s]; exact Int.dvd_neg.mpr q3
        · rw [z]; exact Int.dvd_zero _
        · exact q1
        · rw [s]; exact Int.dvd_neg.mpr q2
        · rw [s]; exact Int.dvd_neg.mpr q1
        · rw [z]; exact Int.dvd_zero _
    · intro p
      have q : ∀ c d e, c < 4 → d < 4 → e < 4 → c < e → d < e → g ∣ (if e < n then sm_m3 A c d e else 0) := fun c d e hc hd he h1 h2 => sm_dif fun z => p c d e (by omega) (by omega) z
      exact ⟨⟨⟨⟨Int.dvd_zero _, q 1 2 3 (by omega) (by omega) (by omega) (by omega) (by omega)⟩, q 0 2 3 (by omega) (by omega) (by omega) (by omega) (by omega)⟩, q 0 1 3 (by omega) (by omega) (by omega) (by omega) (by omega)⟩, p 0 1 2 (by omega) (by omega) (by omega)⟩
  · refine br_f (by decide) ⟨1, sm_y13p (k := 3) (G := 0) (by omega) (by omega) ⟨1, sm_y55p (k := 3) (by omega) (by omega) ⟨5, ?_⟩⟩⟩
    refine br_t rfl (br_f (by decide) (br_t rfl (br_f (by decide) (br_f (by decide) ?_))))
    refine sm_y242 h h9 (i := 0) (c := 1) (d := 2) (e := 3) (by omega) (by omega) (by omega) hn (by omega) ?_
    refine br_t rfl (br_f (by decide) (br_f (by decide) (br_f (by decide) (br_f (by decide) ?_))))
    refine sm_y242 h h9 (i := 1) (c := 0) (d := 2) (e := 3) (by omega) (by omega) (by omega) hn G0 ?_
    refine br_t rfl (br_f (by decide) (br_f (by decide) (br_t (by decide) (br_f (by decide) ?_))))
    refine sm_y242 h h9 (i := 2) (c := 0) (d := 1) (e := 3) (by omega) (by omega) (by omega) hn G1 ?_
    refine br_t rfl (br_f (by decide) (br_f (by decide) (br_t (by decide) (br_t (by decide) ?_))))
    refine sm_y242 h h9 (i := 3) (c := 0) (d := 1) (e := 2) (by omega) (by omega) (by omega) hn G2 ?_
    exact br_t rfl (br_t (by decide) K)
/-- all sizes -/
theorem sm_ydiv (h : sm_yn num A) (h9 : sm_nine A) (k n : Nat) (hk : k < 4) (hn : n ≤ 4) (hn3 : 3 ≤ n) :
    ∃ G : Nat, sm_isG k n A G ∧ G ≤ 5000 ∧ ∀ post : Int32 → Prop, post (nI G) → wpY_divisor post (num, img) (nI k) (nI n) := by
  rcases sm_k4 hk with rfl | rfl | rfl | rfl
  · exact sm_ydiv0 n
  · exact sm_ydiv1 h h9 hn
  · exact sm_ydiv2 h h9 hn
  · exact sm_ydiv3 h h9 hn hn3
theorem sm_n0 {G : Nat} (h : G ≤ 5000) : nI G = 0 ↔ (G : Int) = 0 := by
  have := nI_eq (a := G) (b := 0) (by omega) (by omega)
  rw [nI_0] at this; rw [this]; omega
/-- rankOf -/
theorem sm_yrank {n : Nat} {G1 G2 G3 : Nat} (b1 : G1 ≤ 5000) (b2 : G2 ≤ 5000) (b3 : G3 ≤ 5000)
    (d1 : ∀ post : Int32 → Prop, post (nI G1) → wpY_divisor post (num, img) (nI 1) (nI n))
    (d2 : ∀ post : Int32 → Prop, post (nI G2) → wpY_divisor post (num, img) (nI 2) (nI n))
    (d3 : ∀ post : Int32 → Prop, post (nI G3) → wpY_divisor post (num, img) (nI 3) (nI n))
    {post : Int32 → Prop} (K : post (nI (sm_rk G1 G2 G3))) : wpY_rankOf post (num, img) (nI n) := by
  unfold sm_rk at K
  refine ⟨4, br_f (by decide) (d3 _ (br_c (fun z => ?_) (fun z => ?_)))⟩
  · rw [sm_n0 b3] at z
    rw [if_pos z] at K
    refine nm_r (e' := nI 2) (by decide) (br_f (by decide) (d2 _ (br_c (fun y => ?_) (fun y => ?_))))
    · rw [sm_n0 b2] at y
      rw [if_pos y] at K
      refine nm_r (e' := nI 1) (by decide) (br_f (by decide) (d1 _ (br_c (fun w => ?_) (fun w => ?_))))
      · rw [sm_n0 b1] at w
        rw [if_pos w] at K
        exact nm_r (e' := nI 0) (by decide) (br_t (by decide) K)
      · rw [sm_n0 b1] at w
        rw [if_neg w] at K; exact K
    · rw [sm_n0 b2] at y
      rw [if_neg y] at K; exact K
  · rw [sm_n0 b3] at z
    rw [if_neg z] at K; exact K
end
end
section
/-! the relation -/
def sm_Rel (u : SX) (v : SY) : Prop :=
  match u, v with
  | (f_ready, f_sign, f_rankNow, a_entries, a_rights, a_form, a_back), (a_numbers, a_image) =>
    (∀ r c, r < 3 → c < 3 → a_numbers (4 * r + c) = a_entries (3 * r + c)) ∧ (∀ r, r < 3 → a_numbers (4 * r + 3) = a_rights r) ∧
    sm_nine (sm_A a_entries a_rights) ∧ (f_ready = 0 ∨ (f_ready = 1 ∧ sm_Dn a_entries a_rights a_form a_back f_sign f_rankNow))
def i_Rel (k : Nat) (u : SX) (v : SY) : Prop := sm_Rel u v
theorem i_up {k : Nat} {u : SX} {v : SY} (h : i_Rel k u v) : i_Rel (k + 4) u v := h
theorem i_vc0 : wpX_init (fun u => wpY_init (fun v => i_Rel 0 u v)) := by
  refine ⟨fun _ _ _ _ => rfl, fun _ _ => rfl, fun r c _ _ => ?_, Or.inl rfl⟩
  have e : sm_A (fun _ => 0) (fun _ => 0) r c = 0 := by unfold sm_A; split <;> rfl
  show (sm_A (fun _ => 0) (fun _ => 0) r c).natAbs ≤ 9
  rw [e]; decide
theorem sm_yn_of {num ent rig : Nat → Int32} (h1 : ∀ r c, r < 3 → c < 3 → num (4 * r + c) = ent (3 * r + c)) (h2 : ∀ r, r < 3 → num (4 * r + 3) = rig r) : sm_yn num (sm_A ent rig) := by
  intro r c hr hc
  unfold sm_A
  by_cases e : c = 3
  · subst e; rw [if_pos rfl, sm_u_of]; exact h2 r hr
  · rw [if_neg e, sm_u_of]; exact h1 r c hr (by omega)
/-! small numbers -/
theorem sm_nar {x : Int32} (h : x.toInt.natAbs ≤ 9) : vp_nar .byte x = x := by
  rw [vp_nar_byte]; exact lg_i2b_small (by omega) (by omega)
theorem sm_i8 {x : Int32} (h : x.toInt.natAbs ≤ 9) : x.toInt8.toInt32 = x := lg_i2b_small (by omega) (by omega)
theorem sm_9 {x : Int32} (h1 : ¬ x < -9) (h2 : x ≤ 9) : x.toInt.natAbs ≤ 9 := by
  rw [Int32.lt_iff_toInt_lt, show (-9 : Int32).toInt = -9 from by decide] at h1
  rw [Int32.le_iff_toInt_le, show (9 : Int32).toInt = 9 from by decide] at h2
  omega
/-- an index: below 0, 0 to 2, or above -/
theorem sm_pl (x : Int32) : (x < 0) ∨ (2 < x ∧ ¬ x < 0 ∧ 3 ≤ x) ∨ ∃ r : Nat, r < 3 ∧ x = nI r := by
  by_cases h : x < 0
  · exact Or.inl h
  · obtain ⟨j, hj, rfl⟩ := nI_of h
    by_cases q : j < 3
    · exact Or.inr (Or.inr ⟨j, q, rfl⟩)
    · exact Or.inr (Or.inl ⟨nI_lt (a := 2) (by omega) hj, h, nI_le (a := 3) (by omega) hj⟩)
theorem sm_pl3 {r : Nat} (h : r < 3) : ¬ nI r < 0 ∧ ¬ (2 : Int32) < nI r ∧ ¬ (3 : Int32) ≤ nI r :=
  ⟨nI_pos (by omega), fun q => by
    have : nI 2 < nI r := q
    exact absurd ((nI_ltI (by omega) (by omega)).mp this) (by omega), nI_ge (b := 3) h (by omega)⟩
theorem i_vc_set {k : Nat} {u : SX} {v : SY} (I : i_Rel k u v) (hk : k + 4 ≤ 2048) (v1 : Int32) (v2 : Int32) (v3 : Int32) : wpX_set (fun r u' => wpY_set (fun r' v' => r' = r ∧ i_Rel (k + 4) u' v') v v1 v2 v3) u v1 v2 v3 := by
  obtain ⟨f_ready, f_sign, f_rankNow, ent, rig, f, g⟩ := u
  obtain ⟨num, img⟩ := v
  have I0 := I
  obtain ⟨i1, i2, i3, i4⟩ := I
  rcases sm_pl v1 with h1 | ⟨h1, h1', h1''⟩ | ⟨r, hr, rfl⟩
  · exact br_t h1 (br_t h1 (br_t rfl ⟨rfl, I0⟩))
  · exact br_f h1' (br_t h1 (br_f h1' (br_t h1'' (br_t rfl ⟨rfl, I0⟩))))
  · obtain ⟨a1, a2, a3⟩ := sm_pl3 hr
    refine br_f a1 (br_f a2 ?_)
    rcases sm_pl v2 with h2 | ⟨h2, h2', h2''⟩ | ⟨c, hc, rfl⟩
    · exact br_t h2 (br_f a1 (br_f a3 (br_f (by decide) (br_t h2 (br_t rfl ⟨rfl, I0⟩)))))
    · exact br_f h2' (br_t h2 (br_f a1 (br_f a3 (br_f (by decide) (br_f h2' (br_t h2'' (br_t rfl ⟨rfl, I0⟩)))))))
    · obtain ⟨b1, b2, b3⟩ := sm_pl3 hc
      refine br_f b1 (br_f b2 ?_)
      by_cases h3 : v3 < -9
      · exact br_t h3 (br_f a1 (br_f a3 (br_f (by decide) (br_f b1 (br_f b3 (br_f (by decide) (br_t h3 ⟨rfl, I0⟩)))))))
      · refine br_f h3 ?_
        by_cases h4 : v3 ≤ 9
        · have h9 := sm_9 h3 h4
          refine br_t h4 ⟨sm_i3 hr hc, nm_e (br_f a1 (br_f a3 (br_f (by decide) (br_f b1 (br_f b3 (br_f (by decide) (br_f h3 (br_t h4 ⟨sm_i4 hr (by omega), nm_e ⟨rfl, ?_⟩⟩)))))))) ⟩
          rw [sm_cl3 hr hc, sm_cl4 hr (by omega), sm_i8 h9, sm_nar h9]
          refine ⟨fun r' c' hr' hc' => ?_, fun r' hr' => ?_, fun r' c' hr' hc' => ?_, Or.inl rfl⟩
          · unfold upd
            by_cases e : r' = r ∧ c' = c
            · obtain ⟨rfl, rfl⟩ := e; rw [if_pos rfl, if_pos rfl]
            · rw [if_neg (by omega), if_neg (by omega)]; exact i1 r' c' hr' hc'
          · unfold upd; rw [if_neg (by omega)]; exact i2 r' hr'
          · have := i3 r' c' hr' hc'
            unfold sm_A at this ⊢
            by_cases e : c' = 3
            · rw [if_pos e] at this ⊢; exact this
            · rw [if_neg e] at this ⊢
              unfold upd
              split
              · exact h9
              · exact this
        · exact br_f h4 (br_f a1 (br_f a3 (br_f (by decide) (br_f b1 (br_f b3 (br_f (by decide) (br_f h3 (br_f h4 ⟨rfl, I0⟩))))))))
theorem i_vc_setRight {k : Nat} {u : SX} {v : SY} (I : i_Rel k u v) (hk : k + 4 ≤ 2048) (v1 : Int32) (v2 : Int32) : wpX_setRight (fun r u' => wpY_setRight (fun r' v' => r' = r ∧ i_Rel (k + 4) u' v') v v1 v2) u v1 v2 := by
  obtain ⟨f_ready, f_sign, f_rankNow, ent, rig, f, g⟩ := u
  obtain ⟨num, img⟩ := v
  have I0 := I
  obtain ⟨i1, i2, i3, i4⟩ := I
  rcases sm_pl v1 with h1 | ⟨h1, h1', h1''⟩ | ⟨r, hr, rfl⟩
  · exact br_t h1 (br_t h1 (br_t rfl ⟨rfl, I0⟩))
  · exact br_f h1' (br_t h1 (br_f h1' (br_t h1'' (br_t rfl ⟨rfl, I0⟩))))
  · obtain ⟨a1, a2, a3⟩ := sm_pl3 hr
    refine br_f a1 (br_f a2 ?_)
    by_cases h3 : v2 < -9
    · exact br_t h3 (br_f a1 (br_f a3 (br_f (by decide) (br_t h3 ⟨rfl, I0⟩))))
    · refine br_f h3 ?_
      by_cases h4 : v2 ≤ 9
      · have h9 := sm_9 h3 h4
        have e43 : ((4 : Int32) * nI r + 3).toNatClampNeg = 4 * r + 3 := sm_cl4 hr (c := 3) (by omega)
        refine br_t h4 ⟨vp_in_nI hr (by omega), nm_e (br_f a1 (br_f a3 (br_f (by decide) (br_f h3 (br_t h4 ⟨sm_i4 hr (c := 3) (by omega), nm_e ⟨rfl, ?_⟩⟩))))) ⟩
        rw [e43, nI_clamp (by omega), sm_i8 h9, sm_nar h9]
        refine ⟨fun r' c' hr' hc' => ?_, fun r' hr' => ?_, fun r' c' hr' hc' => ?_, Or.inl rfl⟩
        · unfold upd; rw [if_neg (by omega)]; exact i1 r' c' hr' hc'
        · unfold upd
          by_cases e : r' = r
          · subst e; rw [if_pos rfl, if_pos rfl]
          · rw [if_neg (by omega), if_neg e]; exact i2 r' hr'
        · have := i3 r' c' hr' hc'
          unfold sm_A at this ⊢
          by_cases e : c' = 3
          · rw [if_pos e] at this ⊢
            unfold upd
            split
            · exact h9
            · exact this
          · rw [if_neg e] at this ⊢; exact this
      · exact br_f h4 (br_f a1 (br_f a3 (br_f (by decide) (br_f h3 (br_f h4 ⟨rfl, I0⟩)))))
end
section
/-! turn -/
theorem sm_swE {num img : Nat → Int32} {post : SY → Prop} {i j : Nat} (hi : i < 12) (hj : j < 12)
    (K : post (upd (upd num i (num j)) j (num i), img)) : wpY_exchange post (num, img) (nI i) (nI j) := by
  have e1 : (nI i).toNatClampNeg = i := nI_clamp (by omega)
  have e2 : (nI j).toNatClampNeg = j := nI_clamp (by omega)
  refine ⟨vp_in_nI hi (by omega), nm_r (by rw [e1]) ⟨vp_in_nI hj (by omega), vp_in_nI hi (by omega), nm_r (by rw [e1, e2]) ⟨vp_in_nI hj (by omega), nm_r (by rw [e2]) K⟩⟩⟩
/-- the inner loop of turn at row r -/
theorem sm_tn {post : SX → Prop} {J : Int32 → (Nat → Int32) → (Nat → Int32) → (Nat → Int64) → (Nat → Int64) → Prop} {f_ready f_sign f_rankNow : Int32} {rig : Nat → Int32} {f g : Nat → Int64}
    {r : Nat} (hr : r < 3) : ∀ (d c : Nat) (ent : Nat → Int32), c + d = r → (∀ i, i < 9 → (ent i).toInt.natAbs ≤ 9) →
    (∀ ent', (∀ i, i < 9 → (ent' i).toInt.natAbs ≤ 9) → (∀ a b, a < 3 → b < 3 → ent' (3 * a + b) = if (a = r ∧ c ≤ b ∧ b < r) ∨ (b = r ∧ c ≤ a ∧ a < r) then ent (3 * b + a) else ent (3 * a + b)) → J (nI (r + 1)) ent' rig f g) →
    wX_turn_9 post J (nI r) f_ready f_sign f_rankNow (d + 1) (nI c) ent rig f g := by
  intro d
  induction d with
  | zero =>
    intro c ent hc h9 K
    have : c = r := by omega
    subst this
    refine br_t (nI_le (Nat.le_refl _) (by omega)) (nm_r (nI_1 c) (K ent h9 fun a b ha hb => ?_))
    rw [if_neg (by omega)]
  | succ d ih =>
    intro c ent hc h9 K
    have hc3 : c < 3 := by omega
    have i1 := sm_i3 hr hc3
    have i2 := sm_i3 hc3 hr
    have n1 := h9 (3 * r + c) (by omega)
    have n2 := h9 (3 * c + r) (by omega)
    refine br_f (nI_ge (by omega) (by omega)) ⟨i1, nm_e ⟨i2, i1, nm_e ⟨i2, nm_e (nm_r (nI_1 c) ?_)⟩⟩⟩
    rw [sm_cl3 hr hc3, sm_cl3 hc3 hr, sm_nar n1, sm_nar n2]
    refine ih (c + 1) _ (by omega) (fun i hi => ?_) (fun ent' h9' he => K ent' h9' fun a b ha hb => ?_)
    · unfold upd; split
      · exact n1
      · split
        · exact n2
        · exact h9 i hi
    · rw [he a b ha hb]
      unfold upd
      by_cases q1 : a = r ∧ b = c
      · obtain ⟨rfl, rfl⟩ := q1
        rw [if_neg (by omega), if_neg (by omega), if_pos rfl, if_pos (by omega)]
      · by_cases q2 : a = c ∧ b = r
        · obtain ⟨rfl, rfl⟩ := q2
          rw [if_neg (by omega), if_pos rfl, if_pos (by omega)]
        · by_cases q3 : (a = r ∧ c + 1 ≤ b ∧ b < r) ∨ (b = r ∧ c + 1 ≤ a ∧ a < r)
          · rw [if_pos q3, if_neg (by omega), if_neg (by omega), if_pos (by omega)]
          · rw [if_neg q3, if_neg (by omega), if_neg (by omega), if_neg (by omega)]
theorem sm_tnX {post : SX → Prop} {f_ready f_sign f_rankNow : Int32} {ent rig : Nat → Int32} {f g : Nat → Int64} (h9 : ∀ i, i < 9 → (ent i).toInt.natAbs ≤ 9)
    (K : ∀ ent', (∀ i, i < 9 → (ent' i).toInt.natAbs ≤ 9) → (∀ a b, a < 3 → b < 3 → ent' (3 * a + b) = ent (3 * b + a)) → post (0, f_sign, f_rankNow, ent', rig, f, g)) :
    wpX_turn post (f_ready, f_sign, f_rankNow, ent, rig, f, g) := by
  refine ⟨4, br_f (by decide) ⟨1, sm_tn (r := 0) (by omega) 0 0 ent (by omega) h9 fun e1 a1 b1 => ?_⟩⟩
  refine br_f (by decide) ⟨2, sm_tn (r := 1) (by omega) 1 0 e1 (by omega) a1 fun e2 a2 b2 => ?_⟩
  refine br_f (by decide) ⟨3, sm_tn (r := 2) (by omega) 2 0 e2 (by omega) a2 fun e3 a3 b3 => ?_⟩
  refine br_t (by decide) (K e3 a3 fun a b ha hb => ?_)
  rw [b3 a b ha hb]
  rcases sm_k3 ha with rfl | rfl | rfl <;> rcases sm_k3 hb with rfl | rfl | rfl
  · rw [if_neg (by omega), b2 0 0 (by omega) (by omega), if_neg (by omega), b1 0 0 (by omega) (by omega), if_neg (by omega)]
  · rw [if_neg (by omega), b2 0 1 (by omega) (by omega), if_pos (by omega), b1 1 0 (by omega) (by omega), if_neg (by omega)]
  · rw [if_pos (by omega), b2 2 0 (by omega) (by omega), if_neg (by omega), b1 2 0 (by omega) (by omega), if_neg (by omega)]
  · rw [if_neg (by omega), b2 1 0 (by omega) (by omega), if_pos (by omega), b1 0 1 (by omega) (by omega), if_neg (by omega)]
  · rw [if_neg (by omega), b2 1 1 (by omega) (by omega), if_neg (by omega), b1 1 1 (by omega) (by omega), if_neg (by omega)]
  · rw [if_pos (by omega), b2 2 1 (by omega) (by omega), if_neg (by omega), b1 2 1 (by omega) (by omega), if_neg (by omega)]
  · rw [if_pos (by omega), b2 0 2 (by omega) (by omega), if_neg (by omega), b1 0 2 (by omega) (by omega), if_neg (by omega)]
  · rw [if_pos (by omega), b2 1 2 (by omega) (by omega), if_neg (by omega), b1 1 2 (by omega) (by omega), if_neg (by omega)]
  · rw [if_neg (by omega), b2 2 2 (by omega) (by omega), if_neg (by omega), b1 2 2 (by omega) (by omega), if_neg (by omega)]
theorem i_vc_turn {k : Nat} {u : SX} {v : SY} (I : i_Rel k u v) (hk : k + 4 ≤ 2048) : wpX_turn (fun u' => wpY_turn (fun v' => i_Rel (k + 4) u' v') v) u := by
  obtain ⟨f_ready, f_sign, f_rankNow, ent, rig, f, g⟩ := u
  obtain ⟨num, img⟩ := v
  obtain ⟨i1, i2, i3, i4⟩ := I
  have h9 : ∀ i, i < 9 → (ent i).toInt.natAbs ≤ 9 := fun i hi => by
    have := i3 (i / 3) (i % 3) (by omega) (by omega)
    unfold sm_A at this
    rw [if_neg (by omega), show 3 * (i / 3) + i % 3 = i from by omega] at this
    exact this
  refine sm_tnX h9 fun ent' h9' he => ?_
  unfold wpY_turn
  dsimp only
  refine sm_swE (i := 1) (j := 4) (by omega) (by omega) ?_
  refine sm_swE (i := 2) (j := 8) (by omega) (by omega) ?_
  refine sm_swE (i := 6) (j := 9) (by omega) (by omega) ?_
  refine ⟨fun r c hr hc => ?_, fun r hr => ?_, fun r c hr hc => ?_, Or.inl rfl⟩
  · rw [he r c hr hc, ← i1 c r hc hr]
    rcases sm_k3 hr with rfl | rfl | rfl <;> rcases sm_k3 hc with rfl | rfl | rfl <;> rfl
  · rw [← i2 r hr]
    rcases sm_k3 hr with rfl | rfl | rfl <;> rfl
  · have := i3 r c hr hc
    unfold sm_A at this ⊢
    by_cases e : c = 3
    · rw [if_pos e] at this ⊢; exact this
    · rw [if_neg e]; exact h9' _ (by omega)
end
section
/-! rank, determinant, invariant, solvable -/
theorem sm_Rel_D {ent rig : Nat → Int32} {f g : Nat → Int64} {sgn rank : Int32} {num img : Nat → Int32} {fr fs fk : Int32} {f0 g0 : Nat → Int64} (k : Nat) (I : sm_Rel (fr, fs, fk, ent, rig, f0, g0) (num, img)) (hD : sm_Dn ent rig f g sgn rank) :
    i_Rel (k + 4) (1, sgn, rank, ent, rig, f, g) (num, img) := ⟨I.1, I.2.1, I.2.2.1, Or.inr ⟨rfl, hD⟩⟩
theorem sm_isG_eq {k n : Nat} {A : Nat → Nat → Int} {G H : Int} (h1 : sm_isG k n A G) (h2 : sm_isG k n A H) : G = H :=
  sm_dv_eq h1.1 h2.1 fun g => (h1.2 g).trans (h2.2 g).symm
theorem i_vc_rank {k : Nat} {u : SX} {v : SY} (I : i_Rel k u v) (hk : k + 4 ≤ 2048) : wpX_rank (fun r u' => wpY_rank (fun r' => r' = r ∧ i_Rel (k + 4) u' v) v) u := by
  obtain ⟨f_ready, f_sign, f_rankNow, ent, rig, f, g⟩ := u
  obtain ⟨num, img⟩ := v
  have I0 := I
  obtain ⟨i1, i2, i3, i4⟩ := I
  have hy := sm_yn_of i1 i2
  unfold wpX_rank
  dsimp only
  refine sm_reduce i3 i4 fun f' g' sgn rank hD => ?_
  have hR := sm_Rel_D k I0 hD
  obtain ⟨F, V, s, rk, hF, -, -, -, -, rfl⟩ := hD
  obtain ⟨G1, a1, b1, c1⟩ := sm_ydiv (img := img) hy i3 1 3 (by omega) (by omega) (by omega)
  obtain ⟨G2, a2, b2, c2⟩ := sm_ydiv (img := img) hy i3 2 3 (by omega) (by omega) (by omega)
  obtain ⟨G3, a3, b3, c3⟩ := sm_ydiv (img := img) hy i3 3 3 (by omega) (by omega) (by omega)
  unfold wpY_rank
  dsimp only
  refine sm_yrank (n := 3) b1 b2 b3 c1 c2 c3 ?_
  exact ⟨by rw [sm_rank hF a1 a2 a3], hR⟩
/-! determinant -/
def sm_pr (F : Nat → Nat → Int) : Nat → Nat → Int
  | _, 0 => 1
  | k, d + 1 => F k k * sm_pr F (k + 1) d
section
variable {f_ready f_sign f_rankNow : Int32} {a_entries a_rights : Nat → Int32} {f g : Nat → Int64} {F : Nat → Nat → Int}
theorem sm_fr (hF : sm_FI f F) {r c : Nat} (hr : r < 3) (hc : c < 4) : f ((4 : Int32) * nI r + nI c).toNatClampNeg = sm_w (F r c) := by rw [sm_cl4 hr hc]; exact hF r c hr hc
theorem sm_xdet {post : Int32 → SX → Prop} (hF : sm_FI f F) : ∀ (d k : Nat) (acc : Int), k + d = 3 → post (sm_w (acc * sm_pr F k d)).toInt32 (f_ready, f_sign, f_rankNow, a_entries, a_rights, f, g) →
    wX_determinant_12 post f_ready f_sign f_rankNow a_entries a_rights f g (d + 1) (sm_w acc) (nI k) := by
  intro d
  induction d with
  | zero =>
    intro k acc hk K
    refine br_t (nI_le (a := 3) (by omega) (by omega)) ?_
    have e : acc * sm_pr F k 0 = acc := Int.mul_one acc
    rw [e] at K; exact K
  | succ d ih =>
    intro k acc hk K
    refine br_f (nI_ge (b := 3) (by omega) (by omega)) ⟨sm_i4 (by omega) (by omega), nm_r (e' := sm_w (acc * F k k)) ?_ (nm_r (nI_1 k) (ih (k + 1) _ (by omega) ?_))⟩
    · rw [sm_fr hF (by omega) (by omega), ← sm_w_mul]
    · have e : acc * F k k * sm_pr F (k + 1) d = acc * sm_pr F k (d + 1) := by show _ = acc * (F k k * sm_pr F (k + 1) d); rw [Int.mul_assoc]
      rw [e]; exact K
end
theorem sm_sgn {s : Int} (h : s = 1 ∨ s = -1) : (Int32.ofInt s).toInt64 = sm_w s := by
  rcases h with rfl | rfl <;> decide
theorem i_vc_determinant {k : Nat} {u : SX} {v : SY} (I : i_Rel k u v) (hk : k + 4 ≤ 2048) : wpX_determinant (fun r u' => wpY_determinant (fun r' => r' = r ∧ i_Rel (k + 4) u' v) v) u := by
  obtain ⟨f_ready, f_sign, f_rankNow, ent, rig, f, g⟩ := u
  obtain ⟨num, img⟩ := v
  have I0 := I
  obtain ⟨i1, i2, i3, i4⟩ := I
  have hy := sm_yn_of i1 i2
  unfold wpX_determinant
  dsimp only
  refine sm_reduce i3 i4 fun f' g' sgn rank hD => ?_
  have hR := sm_Rel_D k I0 hD
  obtain ⟨F, V, s, rk, hF, -, hf, -, rfl, -⟩ := hD
  refine ⟨4, ?_⟩
  rw [sm_sgn (sm_det_tr hF.1).2]
  refine sm_xdet hf 3 0 s (by omega) ?_
  unfold wpY_determinant
  dsimp only
  refine sm_ythree hy (c := 0) (d := 1) (e := 2) (by omega) (by omega) (by omega) ⟨?_, hR⟩
  rw [sm_deter hF]
  show sm_u _ = (Int64.ofInt _).toInt32
  rw [Int64.toInt32_ofInt]
  show Int32.ofInt _ = Int32.ofInt _
  congr 1
  show _ = s * (F 0 0 * (F 1 1 * (F 2 2 * 1)))
  grind
/-! invariant -/
section
variable {f_ready f_sign f_rankNow : Int32} {a_entries a_rights : Nat → Int32} {f g : Nat → Int64} {F : Nat → Nat → Int}
theorem sm_invAt {post : Int64 → Prop} (hF : sm_FI f F) (hR : sm_R63 F) {j : Nat} (hj : j < 3) (K : post (sm_w (F j j).natAbs)) :
    wpX_invariantAt post (f_ready, f_sign, f_rankNow, a_entries, a_rights, f, g) (nI j) := by
  have h63 := hR j j hj (by omega)
  refine ⟨sm_i4 hj (by omega), nm_r (sm_fr hF hj (by omega)) (br_c (fun z => ?_) (fun z => ?_))⟩
  · rw [sm_w_le0 h63] at z
    have e : F j j = ((F j j).natAbs : Int) := by omega
    rw [e]; exact K
  · rw [sm_w_le0 h63] at z
    have e : -(sm_w (F j j)) = sm_w (F j j).natAbs := by rw [← sm_w_neg]; congr 1; omega
    rw [e]; exact K
end
theorem sm_w32 (n : Nat) : (sm_w (n : Int)).toInt32 = nI n := by
  show (Int64.ofInt _).toInt32 = _
  rw [Int64.toInt32_ofInt]; exact Int32.ofInt_eq_ofNat
theorem sm_invG {A F V : Nat → Nat → Int} {s : Int} {rk : Nat} (h : sm_Fin A F V s rk) {j : Nat} (hj : j < 3) {G H : Nat} (hG : sm_isG j 3 A G) (hH : sm_isG (j + 1) 3 A H) :
    (G = 0 → F j j = 0) ∧ (G ≠ 0 → H = G * (F j j).natAbs) := by
  have d1 := h.2.2.1
  have d2 := h.2.2.2.1
  rcases sm_k3 hj with rfl | rfl | rfl
  · have e0 := sm_G0 hG
    have e1 := sm_G1 h hH
    refine ⟨fun z => by omega, fun _ => ?_⟩
    have e0' : G = 1 := by omega
    have e1' : H = (F 0 0).natAbs := by omega
    rw [e0', e1', Nat.one_mul]
  · have e0 := sm_G1 h hG
    have e1 := sm_G2 h hH
    have e0' : G = (F 0 0).natAbs := by omega
    have e1' : H = (F 0 0 * F 1 1).natAbs := by omega
    refine ⟨fun z => ?_, fun _ => by rw [e0', e1', Int.natAbs_mul]⟩
    have z0 : F 0 0 = 0 := by omega
    rw [z0] at d1; exact Int.zero_dvd.mp d1
  · have e0 := sm_G2 h hG
    have e1 := sm_G3 h hH
    have e0' : G = (F 0 0 * F 1 1).natAbs := by omega
    have e1' : H = (F 0 0 * F 1 1 * F 2 2).natAbs := by omega
    refine ⟨fun z => ?_, fun _ => by rw [e0', e1', Int.natAbs_mul (F 0 0 * F 1 1)]⟩
    have z0 : F 0 0 * F 1 1 = 0 := by omega
    have z1 : F 1 1 = 0 := by
      rcases Int.mul_eq_zero.mp z0 with q | q
      · rw [q] at d1; exact Int.zero_dvd.mp d1
      · exact q
    rw [z1] at d2; exact Int.zero_dvd.mp d2
theorem i_vc_invariant {k : Nat} {u : SX} {v : SY} (I : i_Rel k u v) (hk : k + 4 ≤ 2048) (v1 : Int32) : wpX_invariant (fun r u' => wpY_invariant (fun r' => r' = r ∧ i_Rel (k + 4) u' v) v v1) u v1 := by
  obtain ⟨f_ready, f_sign, f_rankNow, ent, rig, f, g⟩ := u
  obtain ⟨num, img⟩ := v
  have I0 := I
  obtain ⟨i1, i2, i3, i4⟩ := I
  have hy := sm_yn_of i1 i2
  by_cases h1 : v1 < 1
  · exact br_t h1 (br_t h1 ⟨rfl, I0⟩)
  · by_cases h3 : v1 ≤ 3
    · have hj : ∃ j : Nat, j < 3 ∧ v1 = nI (j + 1) := by
        rw [Int32.lt_iff_toInt_lt, show (1 : Int32).toInt = 1 from by decide] at h1
        rw [Int32.le_iff_toInt_le, show (3 : Int32).toInt = 3 from by decide] at h3
        refine ⟨(v1.toInt - 1).toNat, by omega, ?_⟩
        apply Int32.toInt_inj.mp
        rw [nI_toInt (by omega)]; omega
      obtain ⟨j, hj, rfl⟩ := hj
      refine br_f h1 (br_t h3 ?_)
      refine sm_reduce i3 i4 fun f' g' sgn rank hD => ?_
      have hR := sm_Rel_D k I0 hD
      obtain ⟨F, V, s, rk, hF, h63, hf, -, -, -⟩ := hD
      obtain ⟨G, a1, b1, c1⟩ := sm_ydiv (img := img) hy i3 j 3 (by omega) (by omega) (by omega)
      obtain ⟨H, a2, b2, c2⟩ := sm_ydiv (img := img) hy i3 (j + 1) 3 (by omega) (by omega) (by omega)
      obtain ⟨q1, q2⟩ := sm_invG hF hj a1 a2
      dsimp only
      rw [nI_pred]
      refine sm_invAt hf h63 hj ?_
      rw [sm_w32]
      refine br_f h1 (br_t h3 ?_)
      rw [nI_pred]
      refine c1 _ (br_c (fun z => ?_) (fun z => ?_))
      · rw [sm_n0 b1] at z
        have : F j j = 0 := q1 (by omega)
        rw [this]; exact ⟨rfl, hR⟩
      · have z' := z
        rw [sm_n0 b1] at z
        refine c2 _ ⟨z', ?_, hR⟩
        have e := q2 (by omega)
        rw [(sm_irem (a := H) (d := G) (by omega) (by omega) (by omega)).2, e, Nat.mul_comm, Nat.mul_div_cancel _ (by omega)]
    · exact br_f h1 (br_f h3 (br_f h1 (br_f h3 ⟨rfl, I0⟩)))
/-! solvable -/
section
variable {f_ready f_sign f_rankNow : Int32} {a_entries a_rights : Nat → Int32} {f g : Nat → Int64} {F : Nat → Nat → Int}
theorem sm_xsolv {post : Int32 → SX → Prop} (hF : sm_FI f F) (hR : sm_R63 F)
    (K1 : (∀ r, r < 3 → F r r ∣ F r 3) → post 1 (f_ready, f_sign, f_rankNow, a_entries, a_rights, f, g))
    (K0 : ¬ (∀ r, r < 3 → F r r ∣ F r 3) → post 0 (f_ready, f_sign, f_rankNow, a_entries, a_rights, f, g)) :
    ∀ (d k : Nat), k + d = 3 → (∀ r, r < k → F r r ∣ F r 3) → wX_solvable_6 post f_ready f_sign f_rankNow a_entries a_rights f g (d + 1) (nI k) := by
  intro d
  induction d with
  | zero =>
    intro k hk hp
    exact br_t (nI_le (a := 3) (by omega) (by omega)) (K1 fun r hr => hp r (by omega))
  | succ d ih =>
    intro k hk hp
    have hk3 : k < 3 := by omega
    have h63 := hR k k hk3 (by omega)
    have h63r := hR k 3 hk3 (by omega)
    have next : F k k ∣ F k 3 → ∀ x1 : Int32, x1 = nI k + 1 → wX_solvable_6 post f_ready f_sign f_rankNow a_entries a_rights f g (d + 1) x1 := fun hd =>
      nm_r (nI_1 k) (ih (k + 1) (by omega) fun r hr => by
        by_cases e : r = k
        · subst e; exact hd
        · exact hp r (by omega))
    have e3 : f ((4 : Int32) * nI k + 3).toNatClampNeg = sm_w (F k 3) := sm_fr hF hk3 (c := 3) (by omega)
    refine br_f (nI_ge (b := 3) (by omega) (by omega)) (sm_invAt hF hR hk3 ⟨sm_i4 hk3 (c := 3) (by omega), nm_r e3 (br_c (fun z => ?_) (fun z => ⟨z, ?_⟩))⟩)
    · rw [sm_w_eq0 (by omega)] at z
      have hz : F k k = 0 := by omega
      refine br_c (fun y => ?_) (fun y => ?_)
      · rw [sm_w_eq0 h63r] at y
        exact next (by rw [y]; exact Int.dvd_zero _)
      · rw [sm_w_eq0 h63r] at y
        exact K0 fun q => y (by have := q k hk3; rw [hz] at this; exact Int.zero_dvd.mp this)
    · rw [sm_w_rem0 h63r (by omega)]
      refine br_c (fun y => ?_) (fun y => ?_)
      · exact next (Int.natAbs_dvd.mp y)
      · exact K0 fun q => y (Int.natAbs_dvd.mpr (q k hk3))
end
theorem sm_nIeq {G H : Nat} (hG : G ≤ 5000) (hH : H ≤ 5000) : nI G = nI H ↔ (G : Int) = (H : Int) := by
  rw [nI_eq (by omega) (by omega)]; omega
theorem sm_ysolv {num img : Nat → Int32} {A F V : Nat → Nat → Int} {s : Int} {rk : Nat} (hy : sm_yn num A) (h9 : sm_nine A) (hF : sm_Fin A F V s rk) {post : Int32 → Prop}
    (K1 : (∀ r, r < 3 → F r r ∣ F r 3) → post 1) (K0 : ¬ (∀ r, r < 3 → F r r ∣ F r 3) → post 0) : wpY_solvable post (num, img) := by
  obtain ⟨G1, a1, b1, c1⟩ := sm_ydiv (img := img) hy h9 1 3 (by omega) (by omega) (by omega)
  obtain ⟨G2, a2, b2, c2⟩ := sm_ydiv (img := img) hy h9 2 3 (by omega) (by omega) (by omega)
  obtain ⟨G3, a3, b3, c3⟩ := sm_ydiv (img := img) hy h9 3 3 (by omega) (by omega) (by omega)
  obtain ⟨H1, d1, e1, f1⟩ := sm_ydiv (img := img) hy h9 1 4 (by omega) (by omega) (by omega)
  obtain ⟨H2, d2, e2, f2⟩ := sm_ydiv (img := img) hy h9 2 4 (by omega) (by omega) (by omega)
  obtain ⟨H3, d3, e3, f3⟩ := sm_ydiv (img := img) hy h9 3 4 (by omega) (by omega) (by omega)
  have hs := sm_solv hF a1 a2 a3 d1 d2 d3
  have hrk := sm_rank hF a1 a2 a3
  have hr3 : rk ≤ 3 := hF.2.2.2.2.1
  have hrH : sm_rk (H1 : Int) H2 H3 ≤ 3 := by unfold sm_rk; split; split; split; all_goals omega
  unfold wpY_solvable
  dsimp only
  refine sm_yrank (n := 3) b1 b2 b3 c1 c2 c3 ?_
  rw [hrk]
  refine sm_yrank (n := 4) e1 e2 e3 f1 f2 f3 ?_
  refine br_c (fun z => ?_) (fun z => ?_)
  · rw [nI_eq (by omega) (by omega)] at z
    have r4 : rk = 0 ∨ rk = 1 ∨ rk = 2 ∨ rk = 3 := by omega
    rcases r4 with r | r | r | r
    · subst r
      obtain ⟨G0, a0, b0, c0⟩ := sm_ydiv (img := img) hy h9 0 3 (by omega) (by omega) (by omega)
      obtain ⟨H0, p0, q0, t0⟩ := sm_ydiv (img := img) hy h9 0 4 (by omega) (by omega) (by omega)
      refine c0 _ (t0 _ (br_t ?_ (K1 (hs.mpr ⟨z, fun q => by omega, fun q => by omega, fun q => by omega⟩))))
      rw [sm_nIeq b0 q0, sm_G0 a0, sm_G0 p0]
    · subst r
      refine c1 _ (f1 _ (br_c (fun y => ?_) (fun y => ?_)))
      · rw [sm_nIeq b1 e1] at y
        exact K1 (hs.mpr ⟨z, fun _ => y, fun q => by omega, fun q => by omega⟩)
      · rw [sm_nIeq b1 e1] at y
        exact K0 fun q => y ((hs.mp q).2.1 rfl)
    · subst r
      refine c2 _ (f2 _ (br_c (fun y => ?_) (fun y => ?_)))
      · rw [sm_nIeq b2 e2] at y
        exact K1 (hs.mpr ⟨z, fun q => by omega, fun _ => y, fun q => by omega⟩)
      · rw [sm_nIeq b2 e2] at y
        exact K0 fun q => y ((hs.mp q).2.2.1 rfl)
    · subst r
      refine c3 _ (f3 _ (br_c (fun y => ?_) (fun y => ?_)))
      · rw [sm_nIeq b3 e3] at y
        exact K1 (hs.mpr ⟨z, fun q => by omega, fun q => by omega, fun _ => y⟩)
      · rw [sm_nIeq b3 e3] at y
        exact K0 fun q => y ((hs.mp q).2.2.2 rfl)
  · rw [nI_eq (by omega) (by omega)] at z
    exact K0 fun q => z (hs.mp q).1
theorem i_vc_solvable {k : Nat} {u : SX} {v : SY} (I : i_Rel k u v) (hk : k + 4 ≤ 2048) : wpX_solvable (fun r u' => wpY_solvable (fun r' => r' = r ∧ i_Rel (k + 4) u' v) v) u := by
  obtain ⟨f_ready, f_sign, f_rankNow, ent, rig, f, g⟩ := u
  obtain ⟨num, img⟩ := v
  have I0 := I
  obtain ⟨i1, i2, i3, i4⟩ := I
  have hy := sm_yn_of i1 i2
  unfold wpX_solvable
  dsimp only
  refine sm_reduce i3 i4 fun f' g' sgn rank hD => ?_
  have hR := sm_Rel_D k I0 hD
  obtain ⟨F, V, s, rk, hF, h63, hf, -, -, -⟩ := hD
  refine ⟨4, sm_xsolv hf h63 (fun q => ?_) (fun q => ?_) 3 0 (by omega) (fun r hr => by omega)⟩
  · exact sm_ysolv hy i3 hF (fun _ => ⟨rfl, hR⟩) (fun z => absurd q z)
  · exact sm_ysolv hy i3 hF (fun z => absurd z q) (fun _ => ⟨rfl, hR⟩)
end
section
/-! modulo m: the reference's lists -/
theorem sm_u_div {a b : Int} (ha : a.natAbs ≤ 2147483647) (hb : b.natAbs ≤ 2147483647) : sm_u a / sm_u b = sm_u (a.tdiv b) := by
  apply Int32.toInt_inj.mp
  have hm : sm_u a ≠ Int32.minValue := fun z => by
    have := congrArg Int32.toInt z
    rw [sm_u_toInt ha, show Int32.minValue.toInt = -2147483648 from by decide] at this
    omega
  have hd := Int.natAbs_tdiv_le_natAbs a b
  rw [Int32.toInt_div_of_ne_left _ _ hm, sm_u_toInt ha, sm_u_toInt hb, sm_u_toInt (by omega)]
theorem sm_u_rem {a b : Int} (ha : a.natAbs ≤ 2147483647) (hb : b.natAbs ≤ 2147483647) : sm_u a - sm_u a / sm_u b * sm_u b = sm_u (a.tmod b) := by
  rw [sm_u_div ha hb, ← sm_u_mul, ← sm_u_sub]
  congr 1
  rw [Int.tmod_def]; grind
theorem sm_u_eq0 {a : Int} (h : a.natAbs ≤ 2147483647) : sm_u a = 0 ↔ a = 0 := by
  constructor
  · intro z; have := congrArg Int32.toInt z; rw [sm_u_toInt h, show (0 : Int32).toInt = 0 from by decide] at this; exact this
  · intro z; rw [z, sm_u_0]
theorem sm_u_rem0 {a b : Int} (ha : a.natAbs ≤ 2147483647) (hb : b.natAbs ≤ 2147483647) : sm_u a - sm_u a / sm_u b * sm_u b = 0 ↔ b ∣ a := by
  rw [sm_u_rem ha hb]
  have h : (a.tmod b).natAbs ≤ 2147483647 := by
    rw [Int.natAbs_tmod]; exact Nat.le_trans (Nat.mod_le _ _) ha
  rw [sm_u_eq0 h]
  exact Int.dvd_iff_tmod_eq_zero.symm
/-- the list with number l -/
def sm_ls (m l : Nat) : Nat → Int := sm_v ((l % m : Nat) : Int) ((l / m % m : Nat) : Int) ((l / m / m : Nat) : Int)
theorem sm_dig {m l : Nat} (hm : 0 < m) (hl : l < m * m * m) : l % m < m ∧ l / m % m < m ∧ l / m / m < m := by
  refine ⟨Nat.mod_lt _ hm, Nat.mod_lt _ hm, ?_⟩
  rw [Nat.div_div_eq_div_mul]
  exact Nat.div_lt_of_lt_mul hl
theorem sm_lin_b {A : Nat → Nat → Int} (h9 : sm_nine A) {x : Nat → Int} {r : Nat} (hr : r < 3) (h0 : (x 0).natAbs ≤ 12) (h1 : (x 1).natAbs ≤ 12) (h2 : (x 2).natAbs ≤ 12) : (sm_lin A x r).natAbs ≤ 324 := by
  unfold sm_lin
  exact sm_n3 (sm_n3 (sm_nmul (h9 r 0 hr (by omega)) h0) (sm_nmul (h9 r 1 hr (by omega)) h1)) (sm_nmul (h9 r 2 hr (by omega)) h2)
section
variable {num img : Nat → Int32} {A : Nat → Nat → Int}
theorem sm_ysum (hy : sm_yn num A) {post : Int32 → Prop} {r m l : Nat} (hr : r < 3) (hm : 0 < m) (hm2 : m ≤ 12) (hl : l < m * m * m) (K : post (sm_u (sm_lin A (sm_ls m l) r))) :
    wpY_sum post (num, img) (nI r) (nI l) (nI m) := by
  have hl2 : l < 1728 := by
    have h1 : m * m ≤ 12 * 12 := Nat.mul_le_mul hm2 hm2
    have h2 : m * m * m ≤ 12 * 12 * 12 := Nat.mul_le_mul h1 hm2
    omega
  have hz : ¬ nI m = 0 := nI_ne0 hm (by omega)
  have e0 : (4 : Int32) * nI r = (4 : Int32) * nI r + nI 0 := by rw [nI_0, Int32.add_zero]
  have n0 : num ((4 : Int32) * nI r).toNatClampNeg = sm_u (A r 0) := by rw [e0]; exact sm_yr hy hr (by omega)
  have n1 : num ((4 : Int32) * nI r + 1).toNatClampNeg = sm_u (A r 1) := sm_yr hy hr (c := 1) (by omega)
  have n2 : num ((4 : Int32) * nI r + 2).toNatClampNeg = sm_u (A r 2) := sm_yr hy hr (c := 2) (by omega)
  have q1 := sm_irem (a := l) (d := m) (by omega) hm (by omega)
  have hlm : l / m ≤ l := Nat.div_le_self _ _
  have q2 := sm_irem (a := l / m) (d := m) (by omega) hm (by omega)
  refine ⟨by rw [e0]; exact sm_i4 hr (by omega), hz, sm_i4 hr (c := 1) (by omega), hz, hz, sm_i4 hr (c := 2) (by omega), hz, hz, ?_⟩
  rw [n0, n1, n2, q1.1, q1.2, q2.1, q2.2, ← sm_u_nat, ← sm_u_nat, ← sm_u_nat, ← sm_u_mul, ← sm_u_mul, ← sm_u_mul, ← sm_u_add, ← sm_u_add]
  exact K
/-- fits: of A x - b, or of A x alone -/
theorem sm_yfits (hy : sm_yn num A) (h9 : sm_nine A) {post : Int32 → Prop} {m l p : Nat} (hm : 0 < m) (hm2 : m ≤ 12) (hl : l < m * m * m) (hp : p < 2) (z : Nat → Int) (hz : ∀ r, r < 3 → z r = if p = 0 then A r 3 else 0)
    (K1 : (∀ r, r < 3 → (m : Int) ∣ sm_lin A (sm_ls m l) r - z r) → post 1) (K0 : ¬ (∀ r, r < 3 → (m : Int) ∣ sm_lin A (sm_ls m l) r - z r) → post 0) :
    wpY_fits post (num, img) (nI l) (nI m) (nI p) := by
  obtain ⟨g0, g1, g2⟩ := sm_dig hm hl
  have hne : ¬ nI m = 0 := nI_ne0 hm (by omega)
  have key : ∀ (d r : Nat), r + d = 3 → (∀ r', r' < r → (m : Int) ∣ sm_lin A (sm_ls m l) r' - z r') → wY_fits_3 post (nI l) (nI m) (nI p) num img (d + 1) (nI r) := by
    intro d
    induction d with
    | zero =>
      intro r hr hp
      exact br_t (nI_le (a := 3) (by omega) (by omega)) (K1 fun r' hr' => hp r' (by omega))
    | succ d ih =>
      intro r hr hprev
      have hr3 : r < 3 := by omega
      have hb := sm_lin_b h9 (x := sm_ls m l) (r := r) hr3 (by show ((l % m : Nat) : Int).natAbs ≤ 12; rw [Int.natAbs_natCast]; exact Nat.le_trans (Nat.le_of_lt g0) hm2) (by show ((l / m % m : Nat) : Int).natAbs ≤ 12; rw [Int.natAbs_natCast]; exact Nat.le_trans (Nat.le_of_lt g1) hm2) (by show ((l / m / m : Nat) : Int).natAbs ≤ 12; rw [Int.natAbs_natCast]; exact Nat.le_trans (Nat.le_of_lt g2) hm2)
      have hzb : (z r).natAbs ≤ 9 := by
        rw [hz r hr3]; split
        · exact h9 r 3 hr3 (by omega)
        · decide
      have last : wY_fits_36 post (wY_fits_3 post (nI l) (nI m) (nI p) num img (d + 1)) (nI l) (nI m) (nI p) (nI r) (sm_u (z r)) (sm_u (sm_lin A (sm_ls m l) r)) num img := by
        refine ⟨hne, ?_⟩
        rw [← sm_u_sub, ← sm_u_nat, sm_u_rem0 (by omega) (by omega)]
        refine br_c (fun q => ?_) (fun q => K0 fun w => q (w r hr3))
        rw [sm_u_nat]
        exact nm_r (nI_1 r) (ih (r + 1) (by omega) fun r' hr' => by
          by_cases e : r' = r
          · subst e; exact q
          · exact hprev r' (by omega))
      refine br_f (nI_ge (b := 3) (by omega) (by omega)) (sm_ysum hy hr3 hm hm2 hl ?_)
      have hzr := hz r hr3
      by_cases e : p = 0
      · subst e
        rw [if_pos rfl] at hzr
        refine br_t rfl ⟨sm_i4 hr3 (c := 3) (by omega), ?_⟩
        have n3 : num ((4 : Int32) * nI r + 3).toNatClampNeg = sm_u (A r 3) := sm_yr hy hr3 (c := 3) (by omega)
        rw [n3, ← hzr]; exact last
      · rw [if_neg e] at hzr
        refine br_f (nI_ne0 (by omega) (by omega)) ?_
        rw [hzr, sm_u_0] at last; exact last
  exact ⟨4, key 3 0 (by omega) (fun r' h => by omega)⟩
end
theorem sm_cube {m : Nat} (hm2 : m ≤ 12) : m * m * m ≤ 1728 := by
  have h1 : m * m ≤ 12 * 12 := Nat.mul_le_mul hm2 hm2
  exact Nat.mul_le_mul h1 hm2
theorem sm_mmm (m : Nat) : nI m * nI m * nI m = nI (m * m * m) := by rw [sm_nm, sm_nm]
/-- a list for every residue -/
theorem sm_code {m a b c : Nat} (hm : 0 < m) (ha : a < m) (hb : b < m) (hc : c < m) : a + m * (b + m * c) < m * m * m ∧ sm_ls m (a + m * (b + m * c)) = sm_v a b c := by
  have e1 : (a + m * (b + m * c)) % m = a := by rw [Nat.add_mul_mod_self_left]; exact Nat.mod_eq_of_lt ha
  have e2 : (a + m * (b + m * c)) / m = b + m * c := by rw [Nat.add_mul_div_left _ _ hm, Nat.div_eq_of_lt ha, Nat.zero_add]
  have e3 : (b + m * c) % m = b := by rw [Nat.add_mul_mod_self_left]; exact Nat.mod_eq_of_lt hb
  have e4 : (b + m * c) / m = c := by rw [Nat.add_mul_div_left _ _ hm, Nat.div_eq_of_lt hb, Nat.zero_add]
  constructor
  · have h1 : b + m * c + 1 ≤ m * m := by
      have : m * c + m ≤ m * m := by rw [← Nat.mul_succ]; exact Nat.mul_le_mul (Nat.le_refl _) hc
      omega
    have h2 : m * (b + m * c) + m ≤ m * (m * m) := by
      rw [← Nat.mul_succ]; exact Nat.mul_le_mul (Nat.le_refl _) h1
    rw [Nat.mul_assoc]; omega
  · unfold sm_ls; rw [e2, e1, e3, e4]
/-- residues -/
theorem sm_res {m : Nat} (hm : 0 < m) (x : Int) : ∃ a : Nat, a < m ∧ (m : Int) ∣ x - a := by
  have h1 := Int.emod_nonneg x (show (m : Int) ≠ 0 by omega)
  have h2 := Int.emod_lt_of_pos x (show (0 : Int) < m by omega)
  refine ⟨(x % m).toNat, by omega, x / m, ?_⟩
  have := Int.mul_ediv_add_emod x m
  omega
theorem sm_lin_res {A : Nat → Nat → Int} {m : Int} {x y : Nat → Int} (h0 : m ∣ x 0 - y 0) (h1 : m ∣ x 1 - y 1) (h2 : m ∣ x 2 - y 2) (r : Nat) : m ∣ sm_lin A x r - sm_lin A y r := by
  have e : sm_lin A x r - sm_lin A y r = A r 0 * (x 0 - y 0) + A r 1 * (x 1 - y 1) + A r 2 * (x 2 - y 2) := by unfold sm_lin; grind
  rw [e]; exact Int.dvd_add (Int.dvd_add (sm_dl _ h0) (sm_dl _ h1)) (sm_dl _ h2)
theorem sm_Sol_l {A : Nat → Nat → Int} {m : Nat} (hm : 0 < m) : sm_Sol m A ↔ ∃ l, l < m * m * m ∧ ∀ r, r < 3 → (m : Int) ∣ sm_lin A (sm_ls m l) r - A r 3 := by
  constructor
  · rintro ⟨x, hx⟩
    obtain ⟨a, a1, a2⟩ := sm_res hm (x 0)
    obtain ⟨b, b1, b2⟩ := sm_res hm (x 1)
    obtain ⟨c, c1, c2⟩ := sm_res hm (x 2)
    obtain ⟨q1, q2⟩ := sm_code hm a1 b1 c1
    refine ⟨_, q1, fun r hr => ?_⟩
    rw [q2]
    have h1 := sm_lin_res (A := A) (x := x) (y := sm_v a b c) (m := m) a2 b2 c2 r
    have e : sm_lin A (sm_v a b c) r - A r 3 = (sm_lin A x r - A r 3) - (sm_lin A x r - sm_lin A (sm_v a b c) r) := by omega
    rw [e]; exact Int.dvd_sub (hx r hr) h1
  · rintro ⟨l, -, h⟩; exact ⟨_, h⟩
section
variable {num img : Nat → Int32} {A : Nat → Nat → Int}
/-- solvableBy of the reference -/
theorem sm_ysolvBy (hy : sm_yn num A) (h9 : sm_nine A) {post : Int32 → Prop} {m : Nat} (hm : 0 < m) (hm2 : m ≤ 12) (K1 : sm_Sol m A → post 1) (K0 : ¬ sm_Sol m A → post 0) : wpY_solvableBy post (num, img) (nI m) := by
  have h17 := sm_cube hm2
  have key : ∀ (d l : Nat), l + d = m * m * m → (∀ l', l' < l → ¬ ∀ r, r < 3 → (m : Int) ∣ sm_lin A (sm_ls m l') r - A r 3) → wY_solvableBy_16 post (nI m) num img (d + 1) (nI l) := by
    intro d
    induction d with
    | zero =>
      intro l hl hp
      refine br_t (by rw [sm_mmm]; exact nI_le (by omega) (by omega)) (K0 fun q => ?_)
      obtain ⟨l', h1, h2⟩ := (sm_Sol_l hm).mp q
      exact hp l' (by omega) h2
    | succ d ih =>
      intro l hl hp
      refine br_f (by rw [sm_mmm]; exact nI_ge (by omega) (by omega)) (sm_yfits hy h9 hm hm2 (by omega) (p := 0) (by omega) (fun r => A r 3) (fun r _ => by rw [if_pos rfl]) (fun q => ?_) (fun q => ?_))
      · exact br_f (by decide) (K1 ((sm_Sol_l hm).mpr ⟨l, by omega, q⟩))
      · exact br_t rfl (nm_r (nI_1 l) (ih (l + 1) (by omega) fun l' hl' => by
          by_cases e : l' = l
          · subst e; exact q
          · exact hp l' (by omega)))
  refine br_f (fun z => ?_) (br_t ?_ ⟨m * m * m + 1, key (m * m * m) 0 (by omega) (fun l' h => by omega)⟩)
  · have : nI m < nI 1 := z
    rw [nI_ltI (by omega) (by omega)] at this; omega
  · exact nI_le (b := 12) hm2 (by omega)
/-- nullCount of the reference -/
theorem sm_cntL {P : (Nat → Int) → Prop} {m : Nat} (hm : 0 < m) : sm_sum (m * m * m) (fun l => sm_b (P (sm_ls m l))) = sm_cnt m P := by
  rw [sm_sum_prod]
  unfold sm_cnt
  refine sm_sum_c fun c hc => ?_
  rw [sm_sum_prod]
  refine sm_sum_c fun b hb => sm_sum_c fun a ha => ?_
  rw [show a + m * b + m * m * c = a + m * (b + m * c) from by grind, (sm_code hm ha hb hc).2]
theorem sm_ynull (hy : sm_yn num A) (h9 : sm_nine A) {post : Int32 → Prop} {m : Nat} (hm : 0 < m) (hm2 : m ≤ 12) (K : post (nI (sm_cnt m (sm_Nul m A)))) : wpY_nullCount post (num, img) (nI m) := by
  have h17 := sm_cube hm2
  rw [← sm_cntL hm] at K
  have key : ∀ (d l : Nat), l + d = m * m * m → wY_nullCount_18 post (nI m) num img (d + 1) (nI (sm_sum l (fun l => sm_b (sm_Nul m A (sm_ls m l))))) (nI l) := by
    intro d
    induction d with
    | zero =>
      intro l hl
      have : l = m * m * m := by omega
      subst this
      exact br_t (by rw [sm_mmm]; exact nI_le (by omega) (by omega)) K
    | succ d ih =>
      intro l hl
      refine br_f (by rw [sm_mmm]; exact nI_ge (by omega) (by omega)) (sm_yfits hy h9 hm hm2 (by omega) (p := 1) (by omega) (fun _ => 0) (fun r _ => by rw [if_neg (by omega)]) (fun q => ?_) (fun q => ?_))
      · have hN : sm_Nul m A (sm_ls m l) := fun r hr => by have := q r hr; rwa [Int.sub_zero] at this
        refine br_f (by decide) (nm_r (nI_1 _) (nm_r (nI_1 l) ?_))
        have := ih (l + 1) (by omega)
        rwa [show sm_sum (l + 1) (fun l => sm_b (sm_Nul m A (sm_ls m l))) = sm_sum l (fun l => sm_b (sm_Nul m A (sm_ls m l))) + 1 from by
          show _ + sm_b _ = _; rw [sm_b_t hN]] at this
      · have hN : ¬ sm_Nul m A (sm_ls m l) := fun w => q fun r hr => by rw [Int.sub_zero]; exact w r hr
        refine br_t rfl (nm_r (nI_1 l) ?_)
        have := ih (l + 1) (by omega)
        rwa [show sm_sum (l + 1) (fun l => sm_b (sm_Nul m A (sm_ls m l))) = sm_sum l (fun l => sm_b (sm_Nul m A (sm_ls m l))) from by
          show _ + sm_b _ = _; rw [sm_b_f hN]; omega] at this
  refine br_f (fun z => ?_) (br_t ?_ ⟨m * m * m + 1, key (m * m * m) 0 (by omega)⟩)
  · have : nI m < nI 1 := z
    rw [nI_ltI (by omega) (by omega)] at this; omega
  · exact nI_le (b := 12) hm2 (by omega)
end
/-- a divisor m: below 1, above 12, or 1 to 12 -/
theorem sm_dm (x : Int32) : (x < 1) ∨ (¬ x < 1 ∧ ¬ x ≤ 12) ∨ ∃ m : Nat, 0 < m ∧ m ≤ 12 ∧ x = nI m ∧ ¬ x < 1 ∧ x ≤ 12 := by
  by_cases h : x < 1
  · exact Or.inl h
  · by_cases h2 : x ≤ 12
    · have h' := h
      have h2' := h2
      rw [Int32.lt_iff_toInt_lt, show (1 : Int32).toInt = 1 from by decide] at h'
      rw [Int32.le_iff_toInt_le, show (12 : Int32).toInt = 12 from by decide] at h2'
      refine Or.inr (Or.inr ⟨x.toInt.toNat, by omega, by omega, ?_, h, h2⟩)
      apply Int32.toInt_inj.mp
      rw [nI_toInt (by omega)]; omega
    · exact Or.inr (Or.inl ⟨h, h2⟩)
end
section
/-! the component modulo m -/
section
variable {f_ready f_sign f_rankNow : Int32} {a_entries a_rights : Nat → Int32} {f g : Nat → Int64} {F : Nat → Nat → Int}
theorem sm_xcom {post : Int64 → Prop} : ∀ (p q : Nat), p ≤ 9223372036854775807 → q ≤ 9223372036854775807 → post (sm_w ((Nat.gcd p q : Nat) : Int)) →
    ∀ n, p < n → wX_commonDivisor_6 post f_ready f_sign f_rankNow a_entries a_rights f g n (sm_w (p : Int)) (sm_w (q : Int)) := by
  intro p
  induction p using Nat.strongRecOn with
  | _ p ih =>
    intro q hp hq K n hn
    obtain ⟨n, rfl⟩ : ∃ n', n = n' + 1 := ⟨n - 1, by omega⟩
    have e0 : sm_w (p : Int) = 0 ↔ (p : Int) = 0 := sm_w_eq0 (by omega)
    by_cases h : p = 0
    · subst h
      rw [Nat.gcd_zero_left] at K
      exact br_t (e0.mpr rfl) K
    · have hne : ¬ sm_w (p : Int) = 0 := fun z => h (by have := e0.mp z; omega)
      have hlt : q % p < p := Nat.mod_lt _ (by omega)
      refine br_f hne ⟨hne, nm_r (e' := sm_w ((q % p : Nat) : Int)) ?_ ?_⟩
      · rw [sm_w_rem (by omega) (by omega)]; congr 1
      · refine ih (q % p) hlt p (by omega) hp ?_ n (by omega)
        rwa [Nat.gcd_rec] at K
theorem sm_xcommon {post : Int64 → Prop} {p m : Nat} (hp : p ≤ 9223372036854775807) (hm : m ≤ 12) (K : post (sm_w ((Nat.gcd p m : Nat) : Int))) :
    wpX_commonDivisor post (f_ready, f_sign, f_rankNow, a_entries, a_rights, f, g) (sm_w (p : Int)) (nI m).toInt64 := by
  rw [sm_i64, nI_toInt (by omega)]
  exact ⟨p + 1, sm_xcom p m hp (by omega) K _ (by omega)⟩
theorem sm_gcdE (d : Int) (m : Nat) : Nat.gcd d.natAbs m = Int.gcd d m := by rw [Int.gcd_eq_natAbs_gcd_natAbs]; rfl
theorem sm_gpos {d : Int} {m : Nat} (hm : 0 < m) (hm2 : m ≤ 12) : 0 < Int.gcd d m ∧ Int.gcd d m ≤ 12 := by
  rw [← sm_gcdE]
  exact ⟨Nat.gcd_pos_of_pos_right _ hm, Nat.le_trans (Nat.gcd_le_right _ hm) hm2⟩
/-- solvableBy of the component, behind reduce -/
theorem sm_xsolvBy {post : Int32 → SX → Prop} (hF : sm_FI f F) (hR : sm_R63 F) {m : Nat} (hm : 0 < m) (hm2 : m ≤ 12)
    (K1 : (∀ r, r < 3 → (Int.gcd (F r r) m : Int) ∣ F r 3) → post 1 (f_ready, f_sign, f_rankNow, a_entries, a_rights, f, g))
    (K0 : ¬ (∀ r, r < 3 → (Int.gcd (F r r) m : Int) ∣ F r 3) → post 0 (f_ready, f_sign, f_rankNow, a_entries, a_rights, f, g)) :
    ∀ (d k : Nat), k + d = 3 → (∀ r, r < k → (Int.gcd (F r r) m : Int) ∣ F r 3) → wX_solvableBy_20 post (nI m) f_ready f_sign f_rankNow a_entries a_rights f g (d + 1) (nI k) := by
  intro d
  induction d with
  | zero =>
    intro k hk hp
    exact br_t (nI_le (a := 3) (by omega) (by omega)) (K1 fun r hr => hp r (by omega))
  | succ d ih =>
    intro k hk hp
    have hk3 : k < 3 := by omega
    have h63 := hR k k hk3 (by omega)
    have h63r := hR k 3 hk3 (by omega)
    have hg := sm_gpos (d := F k k) hm hm2
    have e3 : f ((4 : Int32) * nI k + 3).toNatClampNeg = sm_w (F k 3) := sm_fr hF hk3 (c := 3) (by omega)
    refine br_f (nI_ge (b := 3) (by omega) (by omega)) (sm_invAt hF hR hk3 (sm_xcommon h63 hm2 ?_))
    rw [sm_gcdE]
    refine ⟨sm_i4 hk3 (c := 3) (by omega), ?_, ?_⟩
    · rw [sm_w_eq0 (by omega)]; omega
    · rw [e3, sm_w_rem0 h63r (by omega)]
      refine br_c (fun y => ?_) (fun y => K0 fun q => y (q k hk3))
      exact nm_r (nI_1 k) (ih (k + 1) (by omega) fun r hr => by
        by_cases e : r = k
        · subst e; exact y
        · exact hp r (by omega))
/-- nullCount of the component, behind reduce -/
def sm_gp (F : Nat → Nat → Int) (m : Nat) : Nat → Nat → Nat
  | _, 0 => 1
  | k, d + 1 => Int.gcd (F k k) m * sm_gp F m (k + 1) d
theorem sm_xnull {post : Int32 → SX → Prop} (hF : sm_FI f F) (hR : sm_R63 F) {m : Nat} (hm : 0 < m) (hm2 : m ≤ 12) :
    ∀ (d k acc : Nat), k + d = 3 → post (nI (acc * sm_gp F m k d)) (f_ready, f_sign, f_rankNow, a_entries, a_rights, f, g) →
      wX_nullCount_23 post (nI m) f_ready f_sign f_rankNow a_entries a_rights f g (d + 1) (sm_w (acc : Int)) (nI k) := by
  intro d
  induction d with
  | zero =>
    intro k acc hk K
    refine br_t (nI_le (a := 3) (by omega) (by omega)) ?_
    rw [sm_w32]
    have e : acc * sm_gp F m k 0 = acc := Nat.mul_one acc
    rw [e] at K; exact K
  | succ d ih =>
    intro k acc hk K
    have hk3 : k < 3 := by omega
    have h63 := hR k k hk3 (by omega)
    refine br_f (nI_ge (b := 3) (by omega) (by omega)) (sm_invAt hF hR hk3 (sm_xcommon h63 hm2 ?_))
    rw [sm_gcdE]
    refine nm_r (e' := sm_w ((acc * Int.gcd (F k k) m : Nat) : Int)) ?_ (nm_r (nI_1 k) (ih (k + 1) _ (by omega) ?_))
    · rw [← sm_w_mul]; congr 1
    · have e : acc * Int.gcd (F k k) m * sm_gp F m (k + 1) d = acc * sm_gp F m k (d + 1) := by show _ = acc * (Int.gcd (F k k) m * sm_gp F m (k + 1) d); rw [Nat.mul_assoc]
      rw [e]; exact K
end
/-- solvableBy of the component: its answer, and what it leaves -/
theorem sm_XsolvBy {f_ready f_sign f_rankNow : Int32} {ent rig : Nat → Int32} {f g : Nat → Int64} (h9 : sm_nine (sm_A ent rig)) (hI : f_ready = 0 ∨ (f_ready = 1 ∧ sm_Dn ent rig f g f_sign f_rankNow))
    {post : Int32 → SX → Prop} {m : Nat} (hm : 0 < m) (hm2 : m ≤ 12) (h1 : ¬ nI m < 1) (h2 : nI m ≤ 12)
    (K1 : ∀ f' g' sgn rank, sm_Dn ent rig f' g' sgn rank → sm_Sol m (sm_A ent rig) → post 1 (1, sgn, rank, ent, rig, f', g'))
    (K0 : ∀ f' g' sgn rank, sm_Dn ent rig f' g' sgn rank → ¬ sm_Sol m (sm_A ent rig) → post 0 (1, sgn, rank, ent, rig, f', g')) :
    wpX_solvableBy post (f_ready, f_sign, f_rankNow, ent, rig, f, g) (nI m) := by
  refine br_f h1 (br_t h2 (sm_reduce h9 hI fun f' g' sgn rank hD => ?_))
  have hD0 := hD
  obtain ⟨F, V, s, rk, hF, h63, hf, -, -, -⟩ := hD
  have hS : sm_Sol m (sm_A ent rig) ↔ ∀ r, r < 3 → (Int.gcd (F r r) m : Int) ∣ F r 3 := (sm_Sol_tr hF.1).trans (sm_Sol_dg hF.2.1)
  exact ⟨4, sm_xsolvBy hf h63 hm hm2 (fun q => K1 f' g' sgn rank hD0 (hS.mpr q)) (fun q => K0 f' g' sgn rank hD0 (fun z => q (hS.mp z))) 3 0 (by omega) (fun r hr => by omega)⟩
theorem i_vc_solvableBy {k : Nat} {u : SX} {v : SY} (I : i_Rel k u v) (hk : k + 4 ≤ 2048) (v1 : Int32) : wpX_solvableBy (fun r u' => wpY_solvableBy (fun r' => r' = r ∧ i_Rel (k + 4) u' v) v v1) u v1 := by
  obtain ⟨f_ready, f_sign, f_rankNow, ent, rig, f, g⟩ := u
  obtain ⟨num, img⟩ := v
  have I0 := I
  obtain ⟨i1, i2, i3, i4⟩ := I
  have hy := sm_yn_of i1 i2
  rcases sm_dm v1 with h1 | ⟨h1, h2⟩ | ⟨m, hm, hm2, rfl, h1, h2⟩
  · exact br_t h1 (br_t h1 ⟨rfl, I0⟩)
  · exact br_f h1 (br_f h2 (br_f h1 (br_f h2 ⟨rfl, I0⟩)))
  · refine sm_XsolvBy i3 i4 hm hm2 h1 h2 (fun f' g' sgn rank hD hS => ?_) (fun f' g' sgn rank hD hS => ?_)
    · exact sm_ysolvBy hy i3 hm hm2 (fun _ => ⟨rfl, sm_Rel_D k I0 hD⟩) (fun z => absurd hS z)
    · exact sm_ysolvBy hy i3 hm hm2 (fun z => absurd z hS) (fun _ => ⟨rfl, sm_Rel_D k I0 hD⟩)
/-! nullCount -/
theorem sm_Xnull {f_ready f_sign f_rankNow : Int32} {ent rig : Nat → Int32} {f g : Nat → Int64} (h9 : sm_nine (sm_A ent rig)) (hI : f_ready = 0 ∨ (f_ready = 1 ∧ sm_Dn ent rig f g f_sign f_rankNow))
    {post : Int32 → SX → Prop} {m : Nat} (hm : 0 < m) (hm2 : m ≤ 12) (h1 : ¬ nI m < 1) (h2 : nI m ≤ 12)
    (K : ∀ f' g' sgn rank, sm_Dn ent rig f' g' sgn rank → post (nI (sm_cnt m (sm_Nul m (sm_A ent rig)))) (1, sgn, rank, ent, rig, f', g')) :
    wpX_nullCount post (f_ready, f_sign, f_rankNow, ent, rig, f, g) (nI m) := by
  refine br_f h1 (br_t h2 (sm_reduce h9 hI fun f' g' sgn rank hD => ?_))
  have hK := K f' g' sgn rank hD
  obtain ⟨F, V, s, rk, hF, h63, hf, -, -, -⟩ := hD
  rw [sm_nul_tr hF.1, sm_nul_dg hF.2.1 hm] at hK
  refine ⟨4, ?_⟩
  have := sm_xnull (post := post) (f_ready := 1) (f_sign := sgn) (f_rankNow := rank) (a_entries := ent) (a_rights := rig) (g := g') hf h63 hm hm2 3 0 1 (by omega) (by
    have e : 1 * sm_gp F m 0 3 = Int.gcd (F 0 0) m * (Int.gcd (F 1 1) m * Int.gcd (F 2 2) m) := by
      show 1 * (Int.gcd (F 0 0) m * (Int.gcd (F 1 1) m * (Int.gcd (F 2 2) m * 1))) = _
      rw [Nat.one_mul, Nat.mul_one]
    rw [e]; exact hK)
  exact this
theorem i_vc_nullCount {k : Nat} {u : SX} {v : SY} (I : i_Rel k u v) (hk : k + 4 ≤ 2048) (v1 : Int32) : wpX_nullCount (fun r u' => wpY_nullCount (fun r' => r' = r ∧ i_Rel (k + 4) u' v) v v1) u v1 := by
  obtain ⟨f_ready, f_sign, f_rankNow, ent, rig, f, g⟩ := u
  obtain ⟨num, img⟩ := v
  have I0 := I
  obtain ⟨i1, i2, i3, i4⟩ := I
  have hy := sm_yn_of i1 i2
  rcases sm_dm v1 with h1 | ⟨h1, h2⟩ | ⟨m, hm, hm2, rfl, h1, h2⟩
  · exact br_t h1 (br_t h1 ⟨rfl, I0⟩)
  · exact br_f h1 (br_f h2 (br_f h1 (br_f h2 ⟨rfl, I0⟩)))
  · exact sm_Xnull i3 i4 hm hm2 h1 h2 fun f' g' sgn rank hD => sm_ynull hy i3 hm hm2 ⟨rfl, sm_Rel_D k I0 hD⟩
/-! firstFailure -/
def sm_FF (A : Nat → Nat → Int) (r : Int32) : Prop :=
  (∃ m : Nat, 0 < m ∧ m ≤ 12 ∧ r = nI m ∧ ¬ sm_Sol m A ∧ ∀ m' : Nat, 0 < m' → m' < m → sm_Sol m' A) ∨ (r = 0 ∧ ∀ m : Nat, 0 < m → m ≤ 12 → sm_Sol m A)
theorem sm_FF_u {A : Nat → Nat → Int} {r r' : Int32} (h : sm_FF A r) (h' : sm_FF A r') : r = r' := by
  rcases h with ⟨m, a, b, c, d, e⟩ | ⟨c, d⟩ <;> rcases h' with ⟨m', a', b', c', d', e'⟩ | ⟨c', d'⟩
  · rw [c, c']
    rcases Nat.lt_trichotomy m m' with z | z | z
    · exact absurd (e' m a z) d
    · rw [z]
    · exact absurd (e m' a' z) d'
  · exact absurd (d' m a b) d
  · exact absurd (d m' a' b') d'
  · rw [c, c']
theorem sm_12 {m : Nat} (hm : 0 < m) (hm2 : m ≤ 12) : ¬ nI m < 1 ∧ nI m ≤ 12 ∧ ¬ (12 : Int32) < nI m := by
  refine ⟨fun z => ?_, nI_le (b := 12) hm2 (by omega), fun z => ?_⟩
  · have : nI m < nI 1 := z
    rw [nI_ltI (by omega) (by omega)] at this; omega
  · have : nI 12 < nI m := z
    rw [nI_ltI (by omega) (by omega)] at this; omega
theorem sm_xff {ent rig : Nat → Int32} (h9 : sm_nine (sm_A ent rig)) {post : Int32 → SX → Prop} (K : ∀ r f' g' rdy sgn rank, (rdy = 0 ∨ (rdy = 1 ∧ sm_Dn ent rig f' g' sgn rank)) → sm_FF (sm_A ent rig) r → post r (rdy, sgn, rank, ent, rig, f', g')) :
    ∀ (d m : Nat) (rdy sgn rank : Int32) (f g : Nat → Int64), m + d = 13 → 0 < m → (rdy = 0 ∨ (rdy = 1 ∧ sm_Dn ent rig f g sgn rank)) → (∀ m' : Nat, 0 < m' → m' < m → sm_Sol m' (sm_A ent rig)) →
      wX_firstFailure_2 post (d + 1) (nI m) rdy sgn rank ent rig f g := by
  intro d
  induction d with
  | zero =>
    intro m rdy sgn rank f g hm h0 hI hp
    have : m = 13 := by omega
    subst this
    exact br_t (by decide) (K 0 f g rdy sgn rank hI (Or.inr ⟨rfl, fun m' a b => hp m' a (by omega)⟩))
  | succ d ih =>
    intro m rdy sgn rank f g hm h0 hI hp
    obtain ⟨q1, q2, q3⟩ := sm_12 h0 (show m ≤ 12 by omega)
    refine br_f q3 (sm_XsolvBy h9 hI h0 (by omega) q1 q2 (fun f' g' sgn' rank' hD hS => ?_) (fun f' g' sgn' rank' hD hS => ?_))
    · refine br_f (by decide) (nm_r (nI_1 m) (ih (m + 1) 1 sgn' rank' f' g' (by omega) (by omega) (Or.inr ⟨rfl, hD⟩) fun m' a b => ?_))
      by_cases e : m' = m
      · subst e; exact hS
      · exact hp m' a (by omega)
    · exact br_t rfl (K (nI m) f' g' 1 sgn' rank' (Or.inr ⟨rfl, hD⟩) (Or.inl ⟨m, h0, by omega, rfl, hS, hp⟩))
theorem sm_yff {num img : Nat → Int32} {A : Nat → Nat → Int} (hy : sm_yn num A) (h9 : sm_nine A) {post : Int32 → Prop} (K : ∀ r, sm_FF A r → post r) :
    ∀ (d m : Nat), m + d = 13 → 0 < m → (∀ m' : Nat, 0 < m' → m' < m → sm_Sol m' A) → wY_firstFailure_2 post num img (d + 1) (nI m) := by
  intro d
  induction d with
  | zero =>
    intro m hm h0 hp
    have : m = 13 := by omega
    subst this
    exact br_t (by decide) (K 0 (Or.inr ⟨rfl, fun m' a b => hp m' a (by omega)⟩))
  | succ d ih =>
    intro m hm h0 hp
    obtain ⟨q1, q2, q3⟩ := sm_12 h0 (show m ≤ 12 by omega)
    refine br_f q3 (sm_ysolvBy hy h9 h0 (by omega) (fun hS => ?_) (fun hS => ?_))
    · refine br_f (by decide) (nm_r (nI_1 m) (ih (m + 1) (by omega) (by omega) fun m' a b => ?_))
      by_cases e : m' = m
      · subst e; exact hS
      · exact hp m' a (by omega)
    · exact br_t rfl (K (nI m) (Or.inl ⟨m, h0, by omega, rfl, hS, hp⟩))
theorem i_vc_firstFailure {k : Nat} {u : SX} {v : SY} (I : i_Rel k u v) (hk : k + 4 ≤ 2048) : wpX_firstFailure (fun r u' => wpY_firstFailure (fun r' => r' = r ∧ i_Rel (k + 4) u' v) v) u := by
  obtain ⟨f_ready, f_sign, f_rankNow, ent, rig, f, g⟩ := u
  obtain ⟨num, img⟩ := v
  obtain ⟨i1, i2, i3, i4⟩ := I
  have hy := sm_yn_of i1 i2
  refine ⟨13, sm_xff i3 (fun r f' g' rdy sgn rank hI hr => ?_) 12 1 f_ready f_sign f_rankNow f g (by omega) (by omega) i4 (fun m' a b => by omega)⟩
  exact ⟨13, sm_yff hy i3 (fun r' hr' => ⟨sm_FF_u hr' hr, i1, i2, i3, hI⟩) 12 1 (by omega) (by omega) (fun m' a b => by omega)⟩
end
section
/-! only -/
def sm_sm (V : Nat → Nat → Int) (w : Nat → Int) (c : Nat) : Nat → Nat → Int
  | _, 0 => 0
  | k, d + 1 => V c k * w k + sm_sm V w c (k + 1) d
section
variable {f_ready f_sign f_rankNow : Int32} {a_entries a_rights : Nat → Int32} {f g : Nat → Int64} {F V : Nat → Nat → Int}
theorem sm_xonly {post : Int32 → SX → Prop} (hF : sm_FI f F) (hV : sm_BI g V) (hR : sm_R63 F) (hne : ∀ r, r < 3 → F r r ≠ 0) {c : Nat} (hc : c < 3) :
    ∀ (d k : Nat) (acc : Int), k + d = 3 → post (sm_u (acc + sm_sm V (fun k => (F k 3).tdiv (F k k)) c k d)) (f_ready, f_sign, f_rankNow, a_entries, a_rights, f, g) →
      wX_only_32 post (nI c) f_ready f_sign f_rankNow a_entries a_rights f g (d + 1) (sm_w acc) (nI k) := by
  intro d
  induction d with
  | zero =>
    intro k acc hk K
    refine br_t (nI_le (a := 3) (by omega) (by omega)) ?_
    have e : acc + sm_sm V (fun k => (F k 3).tdiv (F k k)) c k 0 = acc := Int.add_zero acc
    rw [e] at K
    show post (Int64.ofInt acc).toInt32 _
    rw [Int64.toInt32_ofInt]; exact K
  | succ d ih =>
    intro k acc hk K
    have hk3 : k < 3 := by omega
    have h63 := hR k k hk3 (by omega)
    have h63r := hR k 3 hk3 (by omega)
    have e3 : f ((4 : Int32) * nI k + 3).toNatClampNeg = sm_w (F k 3) := sm_fr hF hk3 (c := 3) (by omega)
    have ek := sm_fr hF hk3 (show k < 4 by omega)
    have eb : g ((3 : Int32) * nI c + nI k).toNatClampNeg = sm_w (V c k) := by rw [sm_cl3 hc hk3]; exact hV c k hc hk3
    refine br_f (nI_ge (b := 3) (by omega) (by omega)) ⟨sm_i3 hc hk3, sm_i4 hk3 (c := 3) (by omega), sm_i4 hk3 (by omega), ?_, nm_r (e' := sm_w (acc + V c k * (F k 3).tdiv (F k k))) ?_ (nm_r (nI_1 k) (ih (k + 1) _ (by omega) ?_))⟩
    · rw [ek, sm_w_eq0 h63]; exact hne k hk3
    · rw [e3, ek, eb, sm_w_div h63r h63, ← sm_w_mul, ← sm_w_add]
    · have e : acc + V c k * (F k 3).tdiv (F k k) + sm_sm V (fun k => (F k 3).tdiv (F k k)) c (k + 1) d = acc + sm_sm V (fun k => (F k 3).tdiv (F k k)) c k (d + 1) := by
        show _ = acc + (V c k * (F k 3).tdiv (F k k) + sm_sm V (fun k => (F k 3).tdiv (F k k)) c (k + 1) d)
        rw [Int.add_assoc]
      rw [e]; exact K
end
/-- solvable of the component: its answer, and what it leaves -/
theorem sm_Xsolv {f_ready f_sign f_rankNow : Int32} {ent rig : Nat → Int32} {f g : Nat → Int64} (h9 : sm_nine (sm_A ent rig)) (hI : f_ready = 0 ∨ (f_ready = 1 ∧ sm_Dn ent rig f g f_sign f_rankNow))
    {post : Int32 → SX → Prop}
    (K : ∀ f' g' sgn F V s rk, sm_Fin (sm_A ent rig) F V s rk → sm_R63 F → sm_FI f' F → sm_BI g' V → sgn = Int32.ofInt s →
      ((∀ r, r < 3 → F r r ∣ F r 3) → post 1 (1, sgn, nI rk, ent, rig, f', g')) ∧ (¬ (∀ r, r < 3 → F r r ∣ F r 3) → post 0 (1, sgn, nI rk, ent, rig, f', g'))) :
    wpX_solvable post (f_ready, f_sign, f_rankNow, ent, rig, f, g) := by
  unfold wpX_solvable
  dsimp only
  refine sm_reduce h9 hI fun f' g' sgn rank hD => ?_
  obtain ⟨F, V, s, rk, hF, h63, hf, hg, hs, rfl⟩ := hD
  obtain ⟨q1, q0⟩ := K f' g' sgn F V s rk hF h63 hf hg hs
  exact ⟨4, sm_xsolv hf h63 q1 q0 3 0 (by omega) (fun r hr => by omega)⟩
theorem sm_sm_lin (V : Nat → Nat → Int) (w : Nat → Int) (c : Nat) : 0 + sm_sm V w c 0 3 = sm_lin V w c := by
  show 0 + (V c 0 * w 0 + (V c 1 * w 1 + (V c 2 * w 2 + 0))) = V c 0 * w 0 + V c 1 * w 1 + V c 2 * w 2
  omega
theorem sm_isPlace {num img : Nat → Int32} {post : Int32 → Prop} {c : Nat} (hc : c < 3) (K : post 1) : wpY_isPlace post (num, img) (nI c) := by
  obtain ⟨a1, a2, a3⟩ := sm_pl3 hc
  exact br_f a1 (br_f a3 K)
/-- only of the reference, for a place c -/
theorem sm_yonly {num img : Nat → Int32} {A F V : Nat → Nat → Int} {s : Int} {rk : Nat} (hy : sm_yn num A) (h9 : sm_nine A) (hF : sm_Fin A F V s rk) {post : Int32 → Prop} {c : Nat} (hc : c < 3)
    (K0 : ¬ ((∀ r, r < 3 → F r r ∣ F r 3) ∧ rk = 3) → post (-1000000))
    (K1 : (∀ r, r < 3 → F r r ∣ F r 3) → rk = 3 → ∀ z : Int, (c = 0 → sm_m3 A 3 1 2 = sm_m3 A 0 1 2 * z) → (c = 1 → sm_m3 A 0 3 2 = sm_m3 A 0 1 2 * z) → (c = 2 → sm_m3 A 0 1 3 = sm_m3 A 0 1 2 * z) → post (sm_u z)) :
    wpY_only post (num, img) (nI c) := by
  have hdet := sm_deter hF
  have hb := sm_m3_9 h9 (c := 0) (d := 1) (e := 2) (by omega) (by omega) (by omega)
  have hs : s = 1 ∨ s = -1 := (sm_det_tr hF.1).2
  have h3 : sm_m3 A 0 1 2 ≠ 0 ↔ rk = 3 := by
    have k0 := hF.2.2.2.2.2 0 (by omega)
    have k1 := hF.2.2.2.2.2 1 (by omega)
    have k2 := hF.2.2.2.2.2 2 (by omega)
    have hr := hF.2.2.2.2.1
    have e : sm_m3 A 0 1 2 = 0 ↔ (F 0 0 = 0 ∨ F 1 1 = 0) ∨ F 2 2 = 0 := by
      rw [hdet, Int.mul_eq_zero, Int.mul_eq_zero, Int.mul_eq_zero]; omega
    omega
  unfold wpY_only
  dsimp only
  refine sm_ythree hy (c := 0) (d := 1) (e := 2) (by omega) (by omega) (by omega) ?_
  refine sm_isPlace hc (br_f (by decide) ?_)
  rw [sm_u_eq0 (by omega)]
  refine br_c (fun z => K0 fun q => h3.mpr q.2 z) (fun z => ?_)
  have hrk := h3.mp z
  refine sm_ysolv hy h9 hF (fun q => ?_) (fun q => br_t rfl (K0 fun w => q w.1))
  have zw : ∀ r, r < 3 → F r r * (F r 3).tdiv (F r r) = F r 3 := fun r hr => Int.mul_tdiv_cancel_of_dvd (q r hr)
  obtain ⟨e0, e1, e2⟩ := sm_only hF (fun k => (F k 3).tdiv (F k k)) zw
  have fin : ∀ (up zz : Int), up.natAbs ≤ 2916 → up = sm_m3 A 0 1 2 * zz → sm_u up / sm_u (sm_m3 A 0 1 2) = sm_u zz := by
    intro up zz hu he
    rw [sm_u_div (by omega) (by omega), he, Int.mul_tdiv_cancel_left _ z]
  refine br_f (by decide) ?_
  have nz : ¬ sm_m3 A 0 1 2 = 0 := z
  rcases sm_k3 hc with rfl | rfl | rfl
  · refine br_t rfl (sm_ythree hy (c := 3) (d := 1) (e := 2) (by omega) (by omega) (by omega) ⟨nz, ?_⟩)
    rw [fin _ _ (sm_m3_9 h9 (by omega) (by omega) (by omega)) e0]
    exact K1 q hrk _ (fun _ => e0) (fun h => by omega) (fun h => by omega)
  · refine br_f (by decide) (br_t rfl (sm_ythree hy (c := 0) (d := 3) (e := 2) (by omega) (by omega) (by omega) ⟨nz, ?_⟩))
    rw [fin _ _ (sm_m3_9 h9 (by omega) (by omega) (by omega)) e1]
    exact K1 q hrk _ (fun h => by omega) (fun _ => e1) (fun h => by omega)
  · refine br_f (by decide) (br_f (by decide) (sm_ythree hy (c := 0) (d := 1) (e := 3) (by omega) (by omega) (by omega) ⟨nz, ?_⟩))
    rw [fin _ _ (sm_m3_9 h9 (by omega) (by omega) (by omega)) e2]
    exact K1 q hrk _ (fun h => by omega) (fun h => by omega) (fun _ => e2)
theorem i_vc_only {k : Nat} {u : SX} {v : SY} (I : i_Rel k u v) (hk : k + 4 ≤ 2048) (v1 : Int32) : wpX_only (fun r u' => wpY_only (fun r' => r' = r ∧ i_Rel (k + 4) u' v) v v1) u v1 := by
  obtain ⟨f_ready, f_sign, f_rankNow, ent, rig, f, g⟩ := u
  obtain ⟨num, img⟩ := v
  have I0 := I
  obtain ⟨i1, i2, i3, i4⟩ := I
  have hy := sm_yn_of i1 i2
  rcases sm_pl v1 with h1 | ⟨h1, h1', h1''⟩ | ⟨c, hc, rfl⟩
  · refine br_t h1 ?_
    unfold wpY_only
    dsimp only
    refine sm_ythree hy (c := 0) (d := 1) (e := 2) (by omega) (by omega) (by omega) ?_
    exact br_t h1 (br_t rfl ⟨rfl, I0⟩)
  · refine br_f h1' (br_t h1 ?_)
    unfold wpY_only
    dsimp only
    refine sm_ythree hy (c := 0) (d := 1) (e := 2) (by omega) (by omega) (by omega) ?_
    exact br_f h1' (br_t h1'' (br_t rfl ⟨rfl, I0⟩))
  · obtain ⟨a1, a2, a3⟩ := sm_pl3 hc
    refine br_f a1 (br_f a2 ?_)
    refine sm_Xsolv i3 i4 fun f' g' sgn F V s rk hF h63 hf hg hs => ?_
    have hD : sm_Dn ent rig f' g' sgn (nI rk) := ⟨F, V, s, rk, hF, h63, hf, hg, hs, rfl⟩
    have hR := sm_Rel_D k I0 hD
    have hr3 := hF.2.2.2.2.1
    refine ⟨fun q => br_f (by decide) ?_, fun q => br_t rfl (sm_yonly hy i3 hF hc (fun _ => ⟨rfl, hR⟩) (fun w => absurd w q))⟩
    by_cases e : rk = 3
    · refine br_t (nI_le (a := 3) (by omega) (by omega)) ⟨4, ?_⟩
      have hne : ∀ r, r < 3 → F r r ≠ 0 := fun r hr => (hF.2.2.2.2.2 r hr).mpr (by omega)
      refine sm_xonly hf hg h63 hne hc 3 0 0 (by omega) ?_
      refine sm_yonly hy i3 hF hc (fun w => absurd ⟨q, e⟩ w) (fun _ _ z z0 z1 z2 => ⟨?_, hR⟩)
      have hdet : sm_m3 (sm_A ent rig) 0 1 2 ≠ 0 := by
        rw [sm_deter hF]
        have hs' : s ≠ 0 := by have := (sm_det_tr hF.1).2; omega
        exact Int.mul_ne_zero hs' (Int.mul_ne_zero (Int.mul_ne_zero (hne 0 (by omega)) (hne 1 (by omega))) (hne 2 (by omega)))
      have zw : ∀ r, r < 3 → F r r * (F r 3).tdiv (F r r) = F r 3 := fun r hr => Int.mul_tdiv_cancel_of_dvd (q r hr)
      obtain ⟨e0, e1, e2⟩ := sm_only hF (fun k => (F k 3).tdiv (F k k)) zw
      rw [sm_sm_lin]
      congr 1
      rcases sm_k3 hc with rfl | rfl | rfl
      · exact Int.eq_of_mul_eq_mul_left hdet ((z0 rfl).symm.trans e0)
      · exact Int.eq_of_mul_eq_mul_left hdet ((z1 rfl).symm.trans e1)
      · exact Int.eq_of_mul_eq_mul_left hdet ((z2 rfl).symm.trans e2)
    · refine br_f (nI_ge (b := 3) (by omega) (by omega)) ?_
      exact sm_yonly hy i3 hF hc (fun _ => ⟨rfl, hR⟩) (fun _ w => absurd w e)
end
section
/-! imageCount -/
/-- the residue that rest gives -/
theorem sm_yrest {num img : Nat → Int32} {post : Int32 → Prop} {x : Int} {m : Nat} (hm : 0 < m) (hm2 : m ≤ 12) (hx : x.natAbs ≤ 1000) (K : post (nI (x % m).toNat)) : wpY_rest post (num, img) (sm_u x) (nI m) := by
  have hz : ¬ nI m = 0 := nI_ne0 hm (by omega)
  refine ⟨hz, hz, ?_⟩
  have hlt := sm_tmlt x (p := (m : Int)) (by omega)
  have e1 : sm_u x - sm_u x / nI m * nI m = sm_u (x.tmod m) := by rw [← sm_u_nat, sm_u_rem (by omega) (by omega)]
  have e2 : sm_u (x.tmod m) + nI m = sm_u (x.tmod m + m) := by rw [← sm_u_nat, ← sm_u_add]
  have e3 : sm_u (x.tmod m + m) - sm_u (x.tmod m + m) / nI m * nI m = sm_u ((x.tmod m + m).tmod m) := by rw [← sm_u_nat, sm_u_rem (by omega) (by omega)]
  have e4 : (x.tmod m + m).tmod m = ((x % m).toNat : Int) := by
    have h0 : 0 ≤ x.tmod m + m := by omega
    rw [Int.tmod_eq_emod_of_nonneg h0, Int.add_emod_right]
    have h1 := Int.emod_nonneg x (show (m : Int) ≠ 0 by omega)
    have h2 : x.tmod m % m = x % m := by
      have h3 : x.tmod m = x - m * x.tdiv m := Int.tmod_def x m
      rw [h3, Int.sub_mul_emod_self_left]
    rw [h2]; omega
  rw [e1, e2, e3, e4, sm_u_nat]; exact K
/-- the number of a list's value -/
def sm_ix (A : Nat → Nat → Int) (m l : Nat) : Nat :=
  (sm_lin A (sm_ls m l) 0 % m).toNat + m * ((sm_lin A (sm_ls m l) 1 % m).toNat + m * (sm_lin A (sm_ls m l) 2 % m).toNat)
theorem sm_rl {m : Nat} (hm : 0 < m) (x : Int) : (x % m).toNat < m := by
  have h1 := Int.emod_nonneg x (show (m : Int) ≠ 0 by omega)
  have h2 := Int.emod_lt_of_pos x (show (0 : Int) < m by omega)
  omega
theorem sm_ix_lt {A : Nat → Nat → Int} {m l : Nat} (hm : 0 < m) : sm_ix A m l < m * m * m := (sm_code hm (sm_rl hm _) (sm_rl hm _) (sm_rl hm _)).1
theorem sm_mar {A : Nat → Nat → Int} {m a b c : Nat} (hm : 0 < m) (ha : a < m) (hb : b < m) (hc : c < m) :
    (∃ l, l < m * m * m ∧ sm_ix A m l = a + m * (b + m * c)) ↔ sm_Img m A (sm_v a b c) := by
  have key : ∀ (x : Int) (n : Nat), n < m → ((x % m).toNat = n ↔ (m : Int) ∣ x - n) := by
    intro x n hn
    have h1 := Int.emod_nonneg x (show (m : Int) ≠ 0 by omega)
    have h2 := Int.emod_lt_of_pos x (show (0 : Int) < m by omega)
    constructor
    · intro e
      refine ⟨x / m, ?_⟩
      have := Int.mul_ediv_add_emod x m
      omega
    · intro e
      have h3 : (x - n) % m = 0 := Int.emod_eq_zero_of_dvd e
      have h4 : x % m = (n : Int) % m := by
        have h5 := Int.emod_emod_of_dvd x (Int.dvd_refl (m : Int))
        have h6 : x = (x - n) + n := by omega
        rw [h6, Int.add_emod, h3, Int.zero_add, Int.emod_emod]
      rw [Int.emod_eq_of_lt (show (0 : Int) ≤ (n : Int) by omega) (by omega)] at h4
      omega
  have dec : ∀ a' b' c', a' < m → b' < m → c' < m → (a' + m * (b' + m * c') = a + m * (b + m * c) ↔ a' = a ∧ b' = b ∧ c' = c) := by
    intro a' b' c' ha' hb' hc'
    constructor
    · intro e
      have q1 := (sm_code hm ha' hb' hc').2
      have q2 := (sm_code hm ha hb hc).2
      rw [e] at q1
      have q := q1.symm.trans q2
      have z0 : (a' : Int) = a := congrFun q 0
      have z1 : (b' : Int) = b := congrFun q 1
      have z2 : (c' : Int) = c := congrFun q 2
      omega
    · rintro ⟨rfl, rfl, rfl⟩; rfl
  constructor
  · rintro ⟨l, -, e⟩
    obtain ⟨e0, e1, e2⟩ := (dec _ _ _ (sm_rl hm _) (sm_rl hm _) (sm_rl hm _)).mp e
    refine ⟨sm_ls m l, sm_all3.mpr ⟨?_, ?_, ?_⟩⟩
    · exact (key _ _ ha).mp e0
    · exact (key _ _ hb).mp e1
    · exact (key _ _ hc).mp e2
  · rintro ⟨x, hx⟩
    obtain ⟨p, p1, p2⟩ := sm_res hm (x 0)
    obtain ⟨q, q1, q2⟩ := sm_res hm (x 1)
    obtain ⟨t, t1, t2⟩ := sm_res hm (x 2)
    obtain ⟨w1, w2⟩ := sm_code hm p1 q1 t1
    refine ⟨_, w1, (dec _ _ _ (sm_rl hm _) (sm_rl hm _) (sm_rl hm _)).mpr ?_⟩
    rw [w2]
    have h : ∀ r, r < 3 → (m : Int) ∣ sm_lin A (sm_v p q t) r - sm_v a b c r := fun r hr => by
      have h1 := sm_lin_res (A := A) (x := x) (y := sm_v p q t) (m := m) p2 q2 t2 r
      have e : sm_lin A (sm_v p q t) r - sm_v a b c r = (sm_lin A x r - sm_v a b c r) - (sm_lin A x r - sm_lin A (sm_v p q t) r) := by omega
      rw [e]; exact Int.dvd_sub (hx r hr) h1
    exact ⟨(key _ _ ha).mpr (h 0 (by omega)), (key _ _ hb).mpr (h 1 (by omega)), (key _ _ hc).mpr (h 2 (by omega))⟩
theorem sm_imgL {A : Nat → Nat → Int} {m : Nat} (hm : 0 < m) (hm2 : m ≤ 12) : sm_sum 1728 (fun i => sm_b (∃ l, l < m * m * m ∧ sm_ix A m l = i)) = sm_cnt m (sm_Img m A) := by
  have h17 := sm_cube hm2
  rw [show 1728 = m * m * m + (1728 - m * m * m) from by omega, sm_sum_app]
  have e2 : sm_sum (1728 - m * m * m) (fun i => sm_b (∃ l, l < m * m * m ∧ sm_ix A m l = m * m * m + i)) = 0 := by
    refine Eq.trans (sm_sum_c fun i _ => sm_b_f ?_) (sm_sum_0 _)
    rintro ⟨l, -, e⟩
    have := sm_ix_lt (A := A) (l := l) hm
    omega
  rw [e2, Nat.add_zero, sm_sum_prod]
  unfold sm_cnt
  refine sm_sum_c fun c hc => ?_
  rw [sm_sum_prod]
  refine sm_sum_c fun b hb => sm_sum_c fun a ha => ?_
  rw [show a + m * b + m * m * c = a + m * (b + m * c) from by grind]
  exact sm_b_c (sm_mar hm ha hb hc)
section
variable {num : Nat → Int32} {A : Nat → Nat → Int}
theorem sm_y127 {img : Nat → Int32} {post : Int32 → SY → Prop} (K : post (nI (sm_sum 1728 (fun i => sm_b (img i ≠ 0)))) (num, img)) :
    ∀ (d i : Nat), i + d = 1728 → wY_imageCount_127 post num img (d + 1) (nI (sm_sum i (fun i => sm_b (img i ≠ 0)))) (nI i) := by
  intro d
  induction d with
  | zero =>
    intro i hi
    have : i = 1728 := by omega
    subst this
    exact br_t (nI_le (a := 1728) (b := 1728) (by omega) (by omega)) K
  | succ d ih =>
    intro i hi
    refine br_f (nI_ge (b := 1728) (a := i) (by omega) (by omega)) ⟨vp_in_nI (by omega) (by omega), ?_⟩
    rw [nI_clamp (by omega)]
    have := ih (i + 1) (by omega)
    refine br_c (fun z => ?_) (fun z => ?_)
    · refine nm_r (nI_1 i) ?_
      rwa [show sm_sum (i + 1) (fun i => sm_b (img i ≠ 0)) = sm_sum i (fun i => sm_b (img i ≠ 0)) from by
        show _ + sm_b _ = _; rw [sm_b_f (fun w => w z)]; omega] at this
    · refine nm_r (nI_1 _) (nm_r (nI_1 i) ?_)
      rwa [show sm_sum (i + 1) (fun i => sm_b (img i ≠ 0)) = sm_sum i (fun i => sm_b (img i ≠ 0)) + 1 from by
        show _ + sm_b _ = _; rw [sm_b_t z]] at this
theorem sm_y38 (hy : sm_yn num A) (h9 : sm_nine A) {post : Int32 → SY → Prop} {m : Nat} (hm : 0 < m) (hm2 : m ≤ 12) (K : ∀ img', post (nI (sm_cnt m (sm_Img m A))) (num, img')) :
    ∀ (d l : Nat) (img : Nat → Int32), l + d = m * m * m → (∀ i, i < 1728 → (img i ≠ 0 ↔ ∃ l', l' < l ∧ sm_ix A m l' = i)) → wY_imageCount_38 post (nI m) (d + 1) (nI l) num img := by
  have h17 := sm_cube hm2
  intro d
  induction d with
  | zero =>
    intro l img hl hi
    have : l = m * m * m := by omega
    subst this
    refine br_t (by rw [sm_mmm]; exact nI_le (by omega) (by omega)) ⟨1729, ?_⟩
    refine sm_y127 ?_ 1728 0 (by omega)
    have e : sm_sum 1728 (fun i => sm_b (img i ≠ 0)) = sm_cnt m (sm_Img m A) := by
      rw [← sm_imgL hm hm2]
      exact sm_sum_c fun i hi' => sm_b_c (hi i hi')
    rw [e]; exact K img
  | succ d ih =>
    intro l img hl hi
    have hlm : l < m * m * m := by omega
    obtain ⟨g0, g1, g2⟩ := sm_dig hm hlm
    have hb : ∀ r, r < 3 → (sm_lin A (sm_ls m l) r).natAbs ≤ 1000 := fun r hr => Nat.le_trans (sm_lin_b h9 (x := sm_ls m l) (r := r) hr
      (by show ((l % m : Nat) : Int).natAbs ≤ 12; rw [Int.natAbs_natCast]; exact Nat.le_trans (Nat.le_of_lt g0) hm2)
      (by show ((l / m % m : Nat) : Int).natAbs ≤ 12; rw [Int.natAbs_natCast]; exact Nat.le_trans (Nat.le_of_lt g1) hm2)
      (by show ((l / m / m : Nat) : Int).natAbs ≤ 12; rw [Int.natAbs_natCast]; exact Nat.le_trans (Nat.le_of_lt g2) hm2)) (by omega)
    refine br_f (by rw [sm_mmm]; exact nI_ge (by omega) (by omega)) ?_
    refine sm_ysum hy (r := 0) (by omega) hm hm2 hlm ?_
    refine sm_ysum hy (r := 1) (by omega) hm hm2 hlm ?_
    refine sm_ysum hy (r := 2) (by omega) hm hm2 hlm ?_
    refine sm_yrest hm hm2 (hb 0 (by omega)) ?_
    refine sm_yrest hm hm2 (hb 1 (by omega)) ?_
    refine sm_yrest hm hm2 (hb 2 (by omega)) ?_
    have ei : nI (sm_lin A (sm_ls m l) 0 % m).toNat + nI m * (nI (sm_lin A (sm_ls m l) 1 % m).toNat + nI m * nI (sm_lin A (sm_ls m l) 2 % m).toNat) = nI (sm_ix A m l) := by
      rw [sm_nm, nI_add, sm_nm, nI_add]; rfl
    have hix := sm_ix_lt (A := A) (l := l) hm
    rw [ei]
    refine ⟨vp_in_nI (by omega) (by omega), nm_e (nm_r (nI_1 l) (ih (l + 1) _ (by omega) fun i hi' => ?_))⟩
    rw [nI_clamp (by omega)]
    unfold upd
    by_cases e : i = sm_ix A m l
    · rw [if_pos e]
      exact ⟨fun _ => ⟨l, by omega, e.symm⟩, fun _ => by decide⟩
    · rw [if_neg e, hi i hi']
      constructor
      · rintro ⟨l', h1, h2⟩; exact ⟨l', by omega, h2⟩
      · rintro ⟨l', h1, h2⟩
        by_cases q : l' = l
        · subst q; exact absurd h2.symm e
        · exact ⟨l', by omega, h2⟩
theorem sm_yimage (hy : sm_yn num A) (h9 : sm_nine A) {post : Int32 → SY → Prop} {m : Nat} (hm : 0 < m) (hm2 : m ≤ 12) (h1 : ¬ nI m < 1) (h2 : nI m ≤ 12) {img : Nat → Int32} (K : ∀ img', post (nI (sm_cnt m (sm_Img m A))) (num, img')) :
    wpY_imageCount post (num, img) (nI m) := by
  have key : ∀ (d i : Nat) (img : Nat → Int32), i + d = 1728 → (∀ j, j < i → img j = 0) → wY_imageCount_16 post (nI m) (d + 1) (nI i) num img := by
    intro d
    induction d with
    | zero =>
      intro i img hi hz
      have : i = 1728 := by omega
      subst this
      refine br_t (nI_le (a := 1728) (b := 1728) (by omega) (by omega)) ⟨m * m * m + 1, ?_⟩
      refine sm_y38 hy h9 hm hm2 K (m * m * m) 0 img (by omega) fun i hi => ?_
      rw [hz i hi]
      exact ⟨fun q => absurd rfl q, fun ⟨l', h, _⟩ => by omega⟩
    | succ d ih =>
      intro i img hi hz
      refine br_f (nI_ge (b := 1728) (a := i) (by omega) (by omega)) ⟨vp_in_nI (by omega) (by omega), nm_e (nm_r (nI_1 i) (ih (i + 1) _ (by omega) fun j hj => ?_))⟩
      rw [nI_clamp (by omega)]
      unfold upd
      by_cases e : j = i
      · rw [if_pos e]; rfl
      · rw [if_neg e]; exact hz j (by omega)
  exact br_f h1 (br_t h2 ⟨1729, key 1728 0 img (by omega) (fun j hj => by omega)⟩)
end
theorem i_vc_imageCount {k : Nat} {u : SX} {v : SY} (I : i_Rel k u v) (hk : k + 4 ≤ 2048) (v1 : Int32) : wpX_imageCount (fun r u' => wpY_imageCount (fun r' v' => r' = r ∧ i_Rel (k + 4) u' v') v v1) u v1 := by
  obtain ⟨f_ready, f_sign, f_rankNow, ent, rig, f, g⟩ := u
  obtain ⟨num, img⟩ := v
  have I0 := I
  obtain ⟨i1, i2, i3, i4⟩ := I
  have hy := sm_yn_of i1 i2
  unfold wpX_imageCount
  dsimp only
  rcases sm_dm v1 with h1 | ⟨h1, h2⟩ | ⟨m, hm, hm2, rfl, h1, h2⟩
  · exact br_t h1 (br_f (by decide) (br_t h1 ⟨rfl, I0⟩))
  · exact br_f h1 (br_f h2 (br_f (by decide) (br_f h1 (br_f h2 ⟨rfl, I0⟩))))
  · refine sm_Xnull i3 i4 hm hm2 h1 h2 fun f' g' sgn rank hD => ?_
    have h17 := sm_cube hm2
    have hprod : sm_cnt m (sm_Img m (sm_A ent rig)) * sm_cnt m (sm_Nul m (sm_A ent rig)) = m * m * m := by
      obtain ⟨F, V, s, rk, hF, -⟩ := hD
      rw [sm_img_tr hF.1, sm_nul_tr hF.1, sm_nul_dg hF.2.1 hm]
      exact sm_img_dg hF.2.1 hm
    have hm3 : 0 < m * m * m := Nat.mul_pos (Nat.mul_pos hm hm) hm
    generalize hN : sm_cnt m (sm_Nul m (sm_A ent rig)) = N at *
    generalize hG : sm_cnt m (sm_Img m (sm_A ent rig)) = G at *
    have hN0 : 0 < N := by
      rcases Nat.eq_zero_or_pos N with z | z
      · rw [z, Nat.mul_zero] at hprod; omega
      · exact z
    have hN1 : N ≤ 1728 := by
      have : N ∣ m * m * m := ⟨G, by rw [Nat.mul_comm N G]; exact hprod.symm⟩
      exact Nat.le_trans (Nat.le_of_dvd hm3 this) h17
    refine br_t (nI_pos' (by omega)) ⟨nI_ne0 hN0 (by omega), ?_⟩
    refine sm_yimage hy i3 hm hm2 h1 h2 fun img' => ⟨?_, i1, i2, i3, Or.inr ⟨rfl, hD⟩⟩
    rw [hG, sm_mmm, (sm_irem (a := m * m * m) (d := N) (by omega) hN0 (by omega)).2, ← hprod, Nat.mul_div_cancel _ hN0]
end
