
set_option maxRecDepth 100000
theorem mJ6_bitCount : Ms yJ6_bitCount cJ6_bitCount 1 (some .int) 1 := ⟨q566, q85, q567, by decide +kernel⟩
theorem mX0_letter : Mv RX0 yX0_letter cX0_letter 2 (some .int) 1 := ⟨q206, q207, q72, q208, by decide +kernel⟩
theorem mX0_isIn : Ms yX0_isIn cX0_isIn 6 (some .boolean) 3 := ⟨q212, q72, q213, by decide +kernel⟩
theorem mX0_blank : Mv RX0 yX0_blank cX0_blank 2 (some .int) 0 := ⟨q215, q216, q72, q217, by decide +kernel⟩
theorem mX0_fault : Mv RX0 yX0_fault cX0_fault 3 (some .int) 0 := ⟨q219, q220, q72, q221, by decide +kernel⟩
theorem mX0_endOfLessons : Mv RX0 yX0_endOfLessons cX0_endOfLessons 3 (some .int) 0 := ⟨q224, qs0, q72, q225, by decide +kernel⟩
theorem mX0_isLessonLetter : Ms yX0_isLessonLetter cX0_isLessonLetter 2 (some .boolean) 2 := ⟨q227, q72, q228, by decide +kernel⟩
theorem mX0_school : Mv RX0 yX0_school cX0_school 3 (some .int) 0 := ⟨q234, q235, q72, q236, by decide +kernel⟩
theorem mX0_lesson : Mv RX0 yX0_lesson cX0_lesson 3 (some .int) 2 := ⟨q239, q240, q72, q241, by decide +kernel⟩
theorem mX0_isLesson : Mv RX0 yX0_isLesson cX0_isLesson 2 (some .boolean) 1 := ⟨q244, qs1, q72, q245, by decide +kernel⟩
theorem mX0_tellLesson : Mv RX0 yX0_tellLesson cX0_tellLesson 3 (some .int) 2 := ⟨q248, qs2, q72, q249, by decide +kernel⟩
theorem mX0_whoLearnt : Mv RX0 yX0_whoLearnt cX0_whoLearnt 4 (some .int) 1 := ⟨q252, qs3, q72, q253, by decide +kernel⟩
theorem mX0_has : Ms yX0_has cX0_has 2 (some .boolean) 2 := ⟨q255, q72, q256, by decide +kernel⟩
theorem mX0_stripes : Mv RX0 yX0_stripes cX0_stripes 2 (some .int) 1 := ⟨q258, q259, q72, q260, by decide +kernel⟩
theorem mX0_isThere : Mv RX0 yX0_isThere cX0_isThere 1 (some .boolean) 0 := ⟨q263, qs4, q72, q264, by decide +kernel⟩
theorem mX0_isBoy : Ms yX0_isBoy cX0_isBoy 1 (some .boolean) 1 := ⟨q266, q72, q267, by decide +kernel⟩
theorem mX0_prince : Mv RX0 yX0_prince cX0_prince 5 (some .int) 2 := ⟨q270, q271, q72, q272, by decide +kernel⟩
theorem mX0_made : Ms yX0_made cX0_made 1 (Option.some (FieldType.object "BeatenInstead$Prince")) 1 := ⟨q276, q72, q277, by decide +kernel⟩
theorem mX0_about : Mv RX0 yX0_about cX0_about 3 (some .int) 2 := ⟨q363, q364, q72, q365, by decide +kernel⟩
theorem mX0_isPrince : Mv RX0 yX0_isPrince cX0_isPrince 2 (some .boolean) 1 := ⟨q368, qs5, q72, q369, by decide +kernel⟩
theorem mX0_tellPrince : Mv RX0 yX0_tellPrince cX0_tellPrince 3 (some .int) 2 := ⟨q372, qs6, q72, q373, by decide +kernel⟩
theorem mX0_fondOf : Mv RX0 yX0_fondOf cX0_fondOf 2 (some .int) 1 := ⟨q396, qs7, q72, q397, by decide +kernel⟩
theorem mX0_castTo : Ms yX0_castTo cX0_castTo 2 (some .int) 2 := ⟨q509, q72, q510, by decide +kernel⟩
theorem mX0_give : Mv RX0 yX0_give cX0_give 4 (some .int) 2 := ⟨q512, q513, q72, q514, by decide +kernel⟩
theorem mX0_fond : Mv RX0 yX0_fond cX0_fond 5 (some .int) 3 := ⟨q516, q517, q72, q518, by decide +kernel⟩
theorem mX0_tenths : Mv RX0 yX0_tenths cX0_tenths 3 (some .int) 2 := ⟨q520, q521, q72, q522, by decide +kernel⟩
theorem mX0_tenthsOf : Mv RX0 yX0_tenthsOf cX0_tenthsOf 3 (some .int) 2 := ⟨q525, qs9, q72, q526, by decide +kernel⟩
theorem mX0_tenthsBy : Mv RX0 yX0_tenthsBy cX0_tenthsBy 4 (some .int) 3 := ⟨q529, qs10, q72, q530, by decide +kernel⟩
theorem mX0_teach : Mv RX0 yX0_teach cX0_teach 5 (some .int) 3 := ⟨q538, q539, q72, q540, by decide +kernel⟩
theorem mX0_taught : Mv RX0 yX0_taught cX0_taught 4 none 3 := ⟨q543, qs11, q72, q544, by decide +kernel⟩
theorem mX0_fondThen : Mv RX0 yX0_fondThen cX0_fondThen 3 (some .int) 2 := ⟨q547, qs12, q72, q548, by decide +kernel⟩
theorem mX0_order : Mv RX0 yX0_order cX0_order 3 (some .long) 2 := ⟨q550, q551, q72, q552, by decide +kernel⟩
theorem mX0_tellOrder : Mv RX0 yX0_tellOrder cX0_tellOrder 7 (some .long) 2 := ⟨q559, qs13, q72, q560, by decide +kernel⟩
theorem mX0_leftOf : Mv RX0 yX0_leftOf cX0_leftOf 2 (some .int) 1 := ⟨q563, qs14, q72, q564, by decide +kernel⟩
theorem mX0_tryOrder : Mv RX0 yX0_tryOrder cX0_tryOrder 6 none 3 := ⟨q574, qs15, q72, q575, by decide +kernel⟩
theorem mX0_meanFrom : Mv RX0 yX0_meanFrom cX0_meanFrom 13 (some .long) 4 := ⟨q578, qs16, q72, q579, by decide +kernel⟩
theorem mX0_term : Ms yX0_term cX0_term 11 (some .long) 3 := ⟨q584, q72, q585, by decide +kernel⟩
theorem mX0_match : Mv RX0 yX0_match cX0_match 3 (some .int) 2 := ⟨q587, q588, q72, q589, by decide +kernel⟩
theorem mX0_tellMatch : Mv RX0 yX0_tellMatch cX0_tellMatch 4 (some .int) 2 := ⟨q592, qs17, q72, q593, by decide +kernel⟩
theorem mX0_layMatch : Mv RX0 yX0_layMatch cX0_layMatch 7 (some .int) 1 := ⟨q596, qs18, q72, q597, by decide +kernel⟩
theorem mX0_isMatch : Mv RX0 yX0_isMatch cX0_isMatch 5 (some .boolean) 1 := ⟨q600, qs19, q72, q601, by decide +kernel⟩
theorem mX0_faults : Mv RX0 yX0_faults cX0_faults 4 (some .int) 3 := ⟨q603, q604, q72, q605, by decide +kernel⟩
theorem mX0_faultsOf : Mv RX0 yX0_faultsOf cX0_faultsOf 7 (some .int) 3 := ⟨q609, qs20, q72, q610, by decide +kernel⟩
theorem mX0_blowsBy : Mv RX0 yX0_blowsBy cX0_blowsBy 8 (some .int) 2 := ⟨q613, qs21, q72, q614, by decide +kernel⟩
theorem mX0_hear : Mv RX0 yX0_hear cX0_hear 4 (some .int) 3 := ⟨q616, q617, q72, q618, by decide +kernel⟩
theorem mX0_forget : Mv RX0 yX0_forget cX0_forget 2 (some .int) 0 := ⟨q620, q621, q72, q622, by decide +kernel⟩
theorem mX0_fondness : Mv RX0 yX0_fondness cX0_fondness 2 (some .int) 1 := ⟨q624, q625, q72, q626, by decide +kernel⟩
theorem mX0_fondnessOf : Mv RX0 yX0_fondnessOf cX0_fondnessOf 4 (some .int) 1 := ⟨q629, qs22, q72, q630, by decide +kernel⟩
theorem mX0_canBe : Mv RX0 yX0_canBe cX0_canBe 5 (some .boolean) 2 := ⟨q633, qs23, q72, q634, by decide +kernel⟩
theorem mX0_schools : Mv RX0 yX0_schools cX0_schools 4 (some .int) 3 := ⟨q636, q637, q72, q638, by decide +kernel⟩
theorem mX0_schoolsBy : Mv RX0 yX0_schoolsBy cX0_schoolsBy 8 (some .int) 3 := ⟨q642, qs24, q72, q643, by decide +kernel⟩
theorem mX0_stripesAll : Mv RX0 yX0_stripesAll cX0_stripesAll 3 (some .int) 0 := ⟨q646, qs25, q72, q647, by decide +kernel⟩
theorem mX0_schoolOf : Mv RX0 yX0_schoolOf cX0_schoolOf 3 none 1 := ⟨q650, qs26, q72, q651, by decide +kernel⟩
theorem mX0_draw : Mv RX0 yX0_draw cX0_draw 2 (some .int) 1 := ⟨q654, qs27, q72, q655, by decide +kernel⟩
theorem mX0_learntAll : Mv RX0 yX0_learntAll cX0_learntAll 3 (some .int) 0 := ⟨q662, qs28, q72, q663, by decide +kernel⟩
theorem mX0_image : Mv RX0 yX0_image cX0_image 2 (some .int) 0 := ⟨q665, q666, q72, q667, by decide +kernel⟩
theorem mX0_restore : Mv RX0 yX0_restore cX0_restore 2 (some .int) 0 := ⟨q669, q670, q72, q671, by decide +kernel⟩
theorem mX0_count : Mv RX0 yX0_count cX0_count 2 (some .int) 1 := ⟨q673, q674, q72, q675, by decide +kernel⟩
theorem mX0_digest : Mv RX0 yX0_digest cX0_digest 2 (some .long) 0 := ⟨q677, q678, q72, q679, by decide +kernel⟩
theorem mX0_note : Mv RX0 yX0_note cX0_note 3 none 1 := ⟨q683, qs29, q72, q684, by decide +kernel⟩
theorem mX0_noteLesson : Mv RX0 yX0_noteLesson cX0_noteLesson 3 none 1 := ⟨q688, qs30, q72, q689, by decide +kernel⟩
theorem mX0_notePrince : Mv RX0 yX0_notePrince cX0_notePrince 3 none 1 := ⟨q692, qs31, q72, q693, by decide +kernel⟩
theorem mX1_letter : Mv RX1 yX1_letter cX1_letter 2 (some .int) 1 := ⟨q823, q824, q73, q825, by decide +kernel⟩
theorem mX1_within : Ms yX1_within cX1_within 3 (some .boolean) 3 := ⟨q827, q73, q828, by decide +kernel⟩
theorem mX1_blank : Mv RX1 yX1_blank cX1_blank 2 (some .int) 0 := ⟨q830, q831, q73, q832, by decide +kernel⟩
theorem mX1_fault : Mv RX1 yX1_fault cX1_fault 1 (some .int) 0 := ⟨q834, q835, q73, q836, by decide +kernel⟩
theorem mX1_read : Mv RX1 yX1_read cX1_read 2 (some .int) 0 := ⟨q839, qs32, q73, q840, by decide +kernel⟩
theorem mX1_isFigure : Mv RX1 yX1_isFigure cX1_isFigure 4 (some .boolean) 3 := ⟨q843, qs33, q73, q844, by decide +kernel⟩
theorem mX1_isSign : Mv RX1 yX1_isSign cX1_isSign 3 (some .boolean) 2 := ⟨q847, qs34, q73, q848, by decide +kernel⟩
theorem mX1_readLimit : Mv RX1 yX1_readLimit cX1_readLimit 2 (some .int) 1 := ⟨q851, qs35, q73, q852, by decide +kernel⟩
theorem mX1_school : Mv RX1 yX1_school cX1_school 3 (some .int) 0 := ⟨q854, q855, q73, q856, by decide +kernel⟩
theorem mX1_lesson : Mv RX1 yX1_lesson cX1_lesson 3 (some .int) 2 := ⟨q858, q859, q73, q860, by decide +kernel⟩
theorem mX1_isLesson : Mv RX1 yX1_isLesson cX1_isLesson 2 (some .boolean) 1 := ⟨q863, qs36, q73, q864, by decide +kernel⟩
theorem mX1_lessonNow : Mv RX1 yX1_lessonNow cX1_lessonNow 3 (some .int) 2 := ⟨q867, qs37, q73, q868, by decide +kernel⟩
theorem mX1_learntBy : Mv RX1 yX1_learntBy cX1_learntBy 4 (some .int) 1 := ⟨q871, qs38, q73, q872, by decide +kernel⟩
theorem mX1_has : Ms yX1_has cX1_has 2 (some .boolean) 2 := ⟨q874, q73, q875, by decide +kernel⟩
theorem mX1_stripes : Mv RX1 yX1_stripes cX1_stripes 2 (some .int) 1 := ⟨q877, q878, q73, q879, by decide +kernel⟩
theorem mX1_isBoy : Mv RX1 yX1_isBoy cX1_isBoy 2 (some .boolean) 1 := ⟨q882, qs39, q73, q883, by decide +kernel⟩
theorem mX1_prince : Mv RX1 yX1_prince cX1_prince 5 (some .int) 2 := ⟨q885, q886, q73, q887, by decide +kernel⟩
theorem mX1_about : Mv RX1 yX1_about cX1_about 3 (some .int) 2 := ⟨q889, q890, q73, q891, by decide +kernel⟩
theorem mX1_isPrince : Mv RX1 yX1_isPrince cX1_isPrince 2 (some .boolean) 1 := ⟨q894, qs40, q73, q895, by decide +kernel⟩
theorem mX1_princeNow : Mv RX1 yX1_princeNow cX1_princeNow 3 (some .int) 2 := ⟨q898, qs41, q73, q899, by decide +kernel⟩
theorem mX1_feelsNow : Mv RX1 yX1_feelsNow cX1_feelsNow 2 (some .int) 1 := ⟨q902, qs42, q73, q903, by decide +kernel⟩
theorem mX1_feels : Ms yX1_feels cX1_feels 3 (some .int) 2 := ⟨q905, q73, q906, by decide +kernel⟩
theorem mX1_as : Mv RX1 yX1_as cX1_as 4 (some .int) 2 := ⟨q908, q909, q73, q910, by decide +kernel⟩
theorem mX1_give : Mv RX1 yX1_give cX1_give 4 (some .int) 2 := ⟨q912, q913, q73, q914, by decide +kernel⟩
theorem mX1_fond : Mv RX1 yX1_fond cX1_fond 5 (some .int) 3 := ⟨q916, q917, q73, q918, by decide +kernel⟩
theorem mX1_tenths : Mv RX1 yX1_tenths cX1_tenths 3 (some .int) 2 := ⟨q920, q921, q73, q922, by decide +kernel⟩
theorem mX1_tenthsNow : Mv RX1 yX1_tenthsNow cX1_tenthsNow 3 (some .int) 2 := ⟨q925, qs43, q73, q926, by decide +kernel⟩
theorem mX1_tenthsBy : Mv RX1 yX1_tenthsBy cX1_tenthsBy 5 (some .int) 3 := ⟨q929, qs44, q73, q930, by decide +kernel⟩
theorem mX1_teach : Mv RX1 yX1_teach cX1_teach 4 (some .int) 3 := ⟨q932, q933, q73, q934, by decide +kernel⟩
theorem mX1_fails : Mv RX1 yX1_fails cX1_fails 5 none 2 := ⟨q937, qs45, q73, q938, by decide +kernel⟩
theorem mX1_order : Mv RX1 yX1_order cX1_order 3 (some .long) 2 := ⟨q940, q941, q73, q942, by decide +kernel⟩
theorem mX1_orderNow : Mv RX1 yX1_orderNow cX1_orderNow 13 (some .long) 2 := ⟨q948, qs46, q73, q949, by decide +kernel⟩
theorem mX1_layLeft : Mv RX1 yX1_layLeft cX1_layLeft 3 none 1 := ⟨q952, qs47, q73, q953, by decide +kernel⟩
theorem mX1_layOrder : Mv RX1 yX1_layOrder cX1_layOrder 9 none 2 := ⟨q957, qs48, q73, q958, by decide +kernel⟩
theorem mX1_meanOf : Mv RX1 yX1_meanOf cX1_meanOf 5 (some .long) 1 := ⟨q961, qs49, q73, q962, by decide +kernel⟩
theorem mX1_meanBy : Mv RX1 yX1_meanBy cX1_meanBy 8 (some .long) 2 := ⟨q965, qs50, q73, q966, by decide +kernel⟩
theorem mX1_save : Mv RX1 yX1_save cX1_save 2 none 1 := ⟨q969, qs51, q73, q970, by decide +kernel⟩
theorem mX1_load : Mv RX1 yX1_load cX1_load 2 none 1 := ⟨q973, qs52, q73, q974, by decide +kernel⟩
theorem mX1_lowest : Ms yX1_lowest cX1_lowest 11 (some .long) 3 := ⟨q976, q73, q977, by decide +kernel⟩
theorem mX1_match : Mv RX1 yX1_match cX1_match 3 (some .int) 2 := ⟨q980, q981, q73, q982, by decide +kernel⟩
theorem mX1_matchNow : Mv RX1 yX1_matchNow cX1_matchNow 8 (some .int) 2 := ⟨q985, qs53, q73, q986, by decide +kernel⟩
theorem mX1_matchBy : Mv RX1 yX1_matchBy cX1_matchBy 7 (some .int) 2 := ⟨q990, qs54, q73, q991, by decide +kernel⟩
theorem mX1_boyBy : Mv RX1 yX1_boyBy cX1_boyBy 5 (some .int) 2 := ⟨q994, qs55, q73, q995, by decide +kernel⟩
theorem mX1_faults : Mv RX1 yX1_faults cX1_faults 4 (some .int) 3 := ⟨q997, q998, q73, q999, by decide +kernel⟩
theorem mX1_faultsNow : Mv RX1 yX1_faultsNow cX1_faultsNow 7 (some .int) 3 := ⟨q1002, qs56, q73, q1003, by decide +kernel⟩
theorem mX1_couldFail : Mv RX1 yX1_couldFail cX1_couldFail 8 (some .boolean) 3 := ⟨q1006, qs57, q73, q1007, by decide +kernel⟩
theorem mX1_hear : Mv RX1 yX1_hear cX1_hear 4 (some .int) 3 := ⟨q1009, q1010, q73, q1011, by decide +kernel⟩
theorem mX1_forget : Mv RX1 yX1_forget cX1_forget 2 (some .int) 0 := ⟨q1013, q1014, q73, q1015, by decide +kernel⟩
theorem mX1_fondness : Mv RX1 yX1_fondness cX1_fondness 2 (some .int) 1 := ⟨q1017, q1018, q73, q1019, by decide +kernel⟩
theorem mX1_fondnessNow : Mv RX1 yX1_fondnessNow cX1_fondnessNow 4 (some .int) 1 := ⟨q1022, qs58, q73, q1023, by decide +kernel⟩
theorem mX1_couldBe : Mv RX1 yX1_couldBe cX1_couldBe 6 (some .boolean) 2 := ⟨q1026, qs59, q73, q1027, by decide +kernel⟩
theorem mX1_schools : Mv RX1 yX1_schools cX1_schools 4 (some .int) 3 := ⟨q1029, q1030, q73, q1031, by decide +kernel⟩
theorem mX1_schoolsNow : Mv RX1 yX1_schoolsNow cX1_schoolsNow 8 (some .int) 3 := ⟨q1034, qs60, q73, q1035, by decide +kernel⟩
theorem mX1_saveAll : Mv RX1 yX1_saveAll cX1_saveAll 2 none 0 := ⟨q1038, qs61, q73, q1039, by decide +kernel⟩
theorem mX1_goOne : Mv RX1 yX1_goOne cX1_goOne 3 (some .int) 2 := ⟨q1042, qs62, q73, q1043, by decide +kernel⟩
theorem mX1_draw : Mv RX1 yX1_draw cX1_draw 2 (some .int) 1 := ⟨q1046, qs63, q73, q1047, by decide +kernel⟩
theorem mX1_learntAll : Mv RX1 yX1_learntAll cX1_learntAll 3 (some .int) 0 := ⟨q1054, qs64, q73, q1055, by decide +kernel⟩
theorem mX1_size : Ms yX1_size cX1_size 3 (some .int) 1 := ⟨q1057, q73, q1058, by decide +kernel⟩
theorem mX1_loadAll : Mv RX1 yX1_loadAll cX1_loadAll 2 none 0 := ⟨q1061, qs65, q73, q1062, by decide +kernel⟩
theorem mX1_image : Mv RX1 yX1_image cX1_image 2 (some .int) 0 := ⟨q1064, q1065, q73, q1066, by decide +kernel⟩
theorem mX1_stripesAll : Mv RX1 yX1_stripesAll cX1_stripesAll 1 (some .int) 0 := ⟨q1069, qs66, q73, q1070, by decide +kernel⟩
theorem mX1_restore : Mv RX1 yX1_restore cX1_restore 2 (some .int) 0 := ⟨q1072, q1073, q73, q1074, by decide +kernel⟩
theorem mX1_count : Mv RX1 yX1_count cX1_count 2 (some .int) 1 := ⟨q1076, q1077, q73, q1078, by decide +kernel⟩
theorem mX1_howMany : Mv RX1 yX1_howMany cX1_howMany 2 (some .int) 1 := ⟨q1081, qs67, q73, q1082, by decide +kernel⟩
theorem mX1_digest : Mv RX1 yX1_digest cX1_digest 2 (some .long) 0 := ⟨q1084, q1085, q73, q1086, by decide +kernel⟩
theorem mX1_mix : Mv RX1 yX1_mix cX1_mix 3 none 1 := ⟨q1090, qs68, q73, q1091, by decide +kernel⟩
theorem mX1_mixLesson : Mv RX1 yX1_mixLesson cX1_mixLesson 3 none 1 := ⟨q1095, qs69, q73, q1096, by decide +kernel⟩
theorem mX1_mixPrince : Mv RX1 yX1_mixPrince cX1_mixPrince 3 none 1 := ⟨q1099, qs70, q73, q1100, by decide +kernel⟩
section VD
variable {E : Cx} {own : String} {cc : ByteArray} {nL k n : Nat} {G : Gx} {rm : Room} {w : va_W} {pc : Nat} {ls : List (Option Value)} {st st0 : List Value} {y : MethodName} {b : ByteArray} {Ly idx : Nat} {rt : FieldType} {rmy : Room} {As : List Value}
theorem X_cQi {a : Nat → Nat} {S S1 : StX} {v : Int32} (C : CxOk E RX0 cc nL G rm) (h : Ci G y b Ly rt rmy (wX G a) S (.ref (a 0) :: As) (fun r S' => r = v ∧ S' = S1)) (hl : Cond.methodLink RX0 idx y ∈ lw_all) (hm : Mv RX0 y b Ly (some rt) As.length) (hst : st0 = As.reverse ++ .ref (a 0) :: st) (hd : decode cc pc = .ok (.invokevirtual idx, 3)) (hroom : rmy.cells = 0 ∧ rmy.slots = 0 ∧ k ≤ rm.cells ∧ n ≤ rm.slots ∧ rmy.frames + 1 ≤ rm.frames ∧ 8 + (Ly + 11) + rmy.locals ≤ rm.locals) (hcat : (st.map fun v => v.category).sum ≤ 8) (K : V E nL k n (wX G a S1) (pc + 3) ls (.int v :: st)) : V E nL k n (wX G a S) pc ls st0 :=
  r_callVi (wf := (wX G a)) C h hl hm (ci := 0) rfl rfl hst hd hroom.2.2.2.2 ⟨by rw [hroom.1]; exact hroom.2.2.1, by rw [hroom.2.1]; exact hroom.2.2.2.1⟩ hcat (fun r S' h => by rw [h.1, h.2, hroom.1, hroom.2.1]; exact K)
theorem X_cIi {a : Nat → Nat} {S : StX} {post : Int32 → StX → Prop} (C : CxOk E RX0 cc nL G rm) (h : Ci G y b Ly rt rmy (wX G a) S (.ref (a 0) :: As) post) (hl : Cond.methodLink RX0 idx y ∈ lw_all) (hm : Mv RX0 y b Ly (some rt) As.length) (hst : st0 = As.reverse ++ .ref (a 0) :: st) (hd : decode cc pc = .ok (.invokevirtual idx, 3)) (hroom : k + rmy.cells ≤ rm.cells ∧ n + rmy.slots ≤ rm.slots ∧ rmy.frames + 1 ≤ rm.frames ∧ 8 + (Ly + 11) + rmy.locals ≤ rm.locals) (hcat : (st.map fun v => v.category).sum ≤ 8) (K : ∀ (r : Int32) (S' : StX), post r S' → V E nL (k + rmy.cells) (n + rmy.slots) (wX G a S') (pc + 3) ls (.int r :: st)) : V E nL k n (wX G a S) pc ls st0 :=
  r_callVi (wf := (wX G a)) C h hl hm (ci := 0) rfl rfl hst hd hroom.2.2 ⟨hroom.1, hroom.2.1⟩ hcat K
theorem X_cQl {a : Nat → Nat} {S S1 : StX} {v : Int64} (C : CxOk E RX0 cc nL G rm) (h : Cl G y b Ly rmy (wX G a) S (.ref (a 0) :: As) (fun r S' => r = v ∧ S' = S1)) (hl : Cond.methodLink RX0 idx y ∈ lw_all) (hm : Mv RX0 y b Ly (some .long) As.length) (hst : st0 = As.reverse ++ .ref (a 0) :: st) (hd : decode cc pc = .ok (.invokevirtual idx, 3)) (hroom : rmy.cells = 0 ∧ rmy.slots = 0 ∧ k ≤ rm.cells ∧ n ≤ rm.slots ∧ rmy.frames + 1 ≤ rm.frames ∧ 8 + (Ly + 11) + rmy.locals ≤ rm.locals) (hcat : (st.map fun v => v.category).sum ≤ 8) (K : V E nL k n (wX G a S1) (pc + 3) ls (.long v :: st)) : V E nL k n (wX G a S) pc ls st0 :=
  r_callVl (wf := (wX G a)) C h hl hm (ci := 0) rfl rfl hst hd hroom.2.2.2.2 ⟨by rw [hroom.1]; exact hroom.2.2.1, by rw [hroom.2.1]; exact hroom.2.2.2.1⟩ hcat (fun r S' h => by rw [h.1, h.2, hroom.1, hroom.2.1]; exact K)
theorem X_cIl {a : Nat → Nat} {S : StX} {post : Int64 → StX → Prop} (C : CxOk E RX0 cc nL G rm) (h : Cl G y b Ly rmy (wX G a) S (.ref (a 0) :: As) post) (hl : Cond.methodLink RX0 idx y ∈ lw_all) (hm : Mv RX0 y b Ly (some .long) As.length) (hst : st0 = As.reverse ++ .ref (a 0) :: st) (hd : decode cc pc = .ok (.invokevirtual idx, 3)) (hroom : k + rmy.cells ≤ rm.cells ∧ n + rmy.slots ≤ rm.slots ∧ rmy.frames + 1 ≤ rm.frames ∧ 8 + (Ly + 11) + rmy.locals ≤ rm.locals) (hcat : (st.map fun v => v.category).sum ≤ 8) (K : ∀ (r : Int64) (S' : StX), post r S' → V E nL (k + rmy.cells) (n + rmy.slots) (wX G a S') (pc + 3) ls (.long r :: st)) : V E nL k n (wX G a S) pc ls st0 :=
  r_callVl (wf := (wX G a)) C h hl hm (ci := 0) rfl rfl hst hd hroom.2.2 ⟨hroom.1, hroom.2.1⟩ hcat K
theorem X_cQv {a : Nat → Nat} {S S1 : StX} (C : CxOk E RX0 cc nL G rm) (h : Cv G y b Ly rmy (wX G a) S (.ref (a 0) :: As) (fun S' => S' = S1)) (hl : Cond.methodLink RX0 idx y ∈ lw_all) (hm : Mv RX0 y b Ly none As.length) (hst : st0 = As.reverse ++ .ref (a 0) :: st) (hd : decode cc pc = .ok (.invokevirtual idx, 3)) (hroom : rmy.cells = 0 ∧ rmy.slots = 0 ∧ k ≤ rm.cells ∧ n ≤ rm.slots ∧ rmy.frames + 1 ≤ rm.frames ∧ 8 + (Ly + 11) + rmy.locals ≤ rm.locals) (hcat : (st.map fun v => v.category).sum ≤ 8) (K : V E nL k n (wX G a S1) (pc + 3) ls st) : V E nL k n (wX G a S) pc ls st0 :=
  r_callVv (wf := (wX G a)) C h hl hm (ci := 0) rfl rfl hst hd hroom.2.2.2.2 ⟨by rw [hroom.1]; exact hroom.2.2.1, by rw [hroom.2.1]; exact hroom.2.2.2.1⟩ hcat (fun S' h => by rw [h, hroom.1, hroom.2.1]; exact K)
theorem X_cIv {a : Nat → Nat} {S : StX} {post : StX → Prop} (C : CxOk E RX0 cc nL G rm) (h : Cv G y b Ly rmy (wX G a) S (.ref (a 0) :: As) post) (hl : Cond.methodLink RX0 idx y ∈ lw_all) (hm : Mv RX0 y b Ly none As.length) (hst : st0 = As.reverse ++ .ref (a 0) :: st) (hd : decode cc pc = .ok (.invokevirtual idx, 3)) (hroom : k + rmy.cells ≤ rm.cells ∧ n + rmy.slots ≤ rm.slots ∧ rmy.frames + 1 ≤ rm.frames ∧ 8 + (Ly + 11) + rmy.locals ≤ rm.locals) (hcat : (st.map fun v => v.category).sum ≤ 8) (K : ∀ (S' : StX), post S' → V E nL (k + rmy.cells) (n + rmy.slots) (wX G a S') (pc + 3) ls st) : V E nL k n (wX G a S) pc ls st0 :=
  r_callVv (wf := (wX G a)) C h hl hm (ci := 0) rfl rfl hst hd hroom.2.2 ⟨hroom.1, hroom.2.1⟩ hcat K
theorem M_cQi {a : Nat → Nat} {S S1 : StM} {v : Int32} (C : CxOk E RX1 cc nL G rm) (h : Ci G y b Ly rt rmy (wM G a) S (.ref (a 0) :: As) (fun r S' => r = v ∧ S' = S1)) (hl : Cond.methodLink RX1 idx y ∈ lw_all) (hm : Mv RX1 y b Ly (some rt) As.length) (hst : st0 = As.reverse ++ .ref (a 0) :: st) (hd : decode cc pc = .ok (.invokevirtual idx, 3)) (hroom : rmy.cells = 0 ∧ rmy.slots = 0 ∧ k ≤ rm.cells ∧ n ≤ rm.slots ∧ rmy.frames + 1 ≤ rm.frames ∧ 8 + (Ly + 11) + rmy.locals ≤ rm.locals) (hcat : (st.map fun v => v.category).sum ≤ 8) (K : V E nL k n (wM G a S1) (pc + 3) ls (.int v :: st)) : V E nL k n (wM G a S) pc ls st0 :=
  r_callVi (wf := (wM G a)) C h hl hm (ci := 1) rfl rfl hst hd hroom.2.2.2.2 ⟨by rw [hroom.1]; exact hroom.2.2.1, by rw [hroom.2.1]; exact hroom.2.2.2.1⟩ hcat (fun r S' h => by rw [h.1, h.2, hroom.1, hroom.2.1]; exact K)
theorem M_cIi {a : Nat → Nat} {S : StM} {post : Int32 → StM → Prop} (C : CxOk E RX1 cc nL G rm) (h : Ci G y b Ly rt rmy (wM G a) S (.ref (a 0) :: As) post) (hl : Cond.methodLink RX1 idx y ∈ lw_all) (hm : Mv RX1 y b Ly (some rt) As.length) (hst : st0 = As.reverse ++ .ref (a 0) :: st) (hd : decode cc pc = .ok (.invokevirtual idx, 3)) (hroom : k + rmy.cells ≤ rm.cells ∧ n + rmy.slots ≤ rm.slots ∧ rmy.frames + 1 ≤ rm.frames ∧ 8 + (Ly + 11) + rmy.locals ≤ rm.locals) (hcat : (st.map fun v => v.category).sum ≤ 8) (K : ∀ (r : Int32) (S' : StM), post r S' → V E nL (k + rmy.cells) (n + rmy.slots) (wM G a S') (pc + 3) ls (.int r :: st)) : V E nL k n (wM G a S) pc ls st0 :=
  r_callVi (wf := (wM G a)) C h hl hm (ci := 1) rfl rfl hst hd hroom.2.2 ⟨hroom.1, hroom.2.1⟩ hcat K
theorem M_cQl {a : Nat → Nat} {S S1 : StM} {v : Int64} (C : CxOk E RX1 cc nL G rm) (h : Cl G y b Ly rmy (wM G a) S (.ref (a 0) :: As) (fun r S' => r = v ∧ S' = S1)) (hl : Cond.methodLink RX1 idx y ∈ lw_all) (hm : Mv RX1 y b Ly (some .long) As.length) (hst : st0 = As.reverse ++ .ref (a 0) :: st) (hd : decode cc pc = .ok (.invokevirtual idx, 3)) (hroom : rmy.cells = 0 ∧ rmy.slots = 0 ∧ k ≤ rm.cells ∧ n ≤ rm.slots ∧ rmy.frames + 1 ≤ rm.frames ∧ 8 + (Ly + 11) + rmy.locals ≤ rm.locals) (hcat : (st.map fun v => v.category).sum ≤ 8) (K : V E nL k n (wM G a S1) (pc + 3) ls (.long v :: st)) : V E nL k n (wM G a S) pc ls st0 :=
  r_callVl (wf := (wM G a)) C h hl hm (ci := 1) rfl rfl hst hd hroom.2.2.2.2 ⟨by rw [hroom.1]; exact hroom.2.2.1, by rw [hroom.2.1]; exact hroom.2.2.2.1⟩ hcat (fun r S' h => by rw [h.1, h.2, hroom.1, hroom.2.1]; exact K)
theorem M_cIl {a : Nat → Nat} {S : StM} {post : Int64 → StM → Prop} (C : CxOk E RX1 cc nL G rm) (h : Cl G y b Ly rmy (wM G a) S (.ref (a 0) :: As) post) (hl : Cond.methodLink RX1 idx y ∈ lw_all) (hm : Mv RX1 y b Ly (some .long) As.length) (hst : st0 = As.reverse ++ .ref (a 0) :: st) (hd : decode cc pc = .ok (.invokevirtual idx, 3)) (hroom : k + rmy.cells ≤ rm.cells ∧ n + rmy.slots ≤ rm.slots ∧ rmy.frames + 1 ≤ rm.frames ∧ 8 + (Ly + 11) + rmy.locals ≤ rm.locals) (hcat : (st.map fun v => v.category).sum ≤ 8) (K : ∀ (r : Int64) (S' : StM), post r S' → V E nL (k + rmy.cells) (n + rmy.slots) (wM G a S') (pc + 3) ls (.long r :: st)) : V E nL k n (wM G a S) pc ls st0 :=
  r_callVl (wf := (wM G a)) C h hl hm (ci := 1) rfl rfl hst hd hroom.2.2 ⟨hroom.1, hroom.2.1⟩ hcat K
theorem M_cQv {a : Nat → Nat} {S S1 : StM} (C : CxOk E RX1 cc nL G rm) (h : Cv G y b Ly rmy (wM G a) S (.ref (a 0) :: As) (fun S' => S' = S1)) (hl : Cond.methodLink RX1 idx y ∈ lw_all) (hm : Mv RX1 y b Ly none As.length) (hst : st0 = As.reverse ++ .ref (a 0) :: st) (hd : decode cc pc = .ok (.invokevirtual idx, 3)) (hroom : rmy.cells = 0 ∧ rmy.slots = 0 ∧ k ≤ rm.cells ∧ n ≤ rm.slots ∧ rmy.frames + 1 ≤ rm.frames ∧ 8 + (Ly + 11) + rmy.locals ≤ rm.locals) (hcat : (st.map fun v => v.category).sum ≤ 8) (K : V E nL k n (wM G a S1) (pc + 3) ls st) : V E nL k n (wM G a S) pc ls st0 :=
  r_callVv (wf := (wM G a)) C h hl hm (ci := 1) rfl rfl hst hd hroom.2.2.2.2 ⟨by rw [hroom.1]; exact hroom.2.2.1, by rw [hroom.2.1]; exact hroom.2.2.2.1⟩ hcat (fun S' h => by rw [h, hroom.1, hroom.2.1]; exact K)
theorem M_cIv {a : Nat → Nat} {S : StM} {post : StM → Prop} (C : CxOk E RX1 cc nL G rm) (h : Cv G y b Ly rmy (wM G a) S (.ref (a 0) :: As) post) (hl : Cond.methodLink RX1 idx y ∈ lw_all) (hm : Mv RX1 y b Ly none As.length) (hst : st0 = As.reverse ++ .ref (a 0) :: st) (hd : decode cc pc = .ok (.invokevirtual idx, 3)) (hroom : k + rmy.cells ≤ rm.cells ∧ n + rmy.slots ≤ rm.slots ∧ rmy.frames + 1 ≤ rm.frames ∧ 8 + (Ly + 11) + rmy.locals ≤ rm.locals) (hcat : (st.map fun v => v.category).sum ≤ 8) (K : ∀ (S' : StM), post S' → V E nL (k + rmy.cells) (n + rmy.slots) (wM G a S') (pc + 3) ls st) : V E nL k n (wM G a S) pc ls st0 :=
  r_callVv (wf := (wM G a)) C h hl hm (ci := 1) rfl rfl hst hd hroom.2.2 ⟨hroom.1, hroom.2.1⟩ hcat K
theorem S_cQi {v : Int32} (C : CxOk E own cc nL G rm) (h : Ci G y b Ly rt rmy (fun _ : Unit => []) () As (fun r _ => r = v)) (hl : Cond.methodLink own idx y ∈ lw_all) (hm : Ms y b Ly (some rt) As.length) (hst : st0 = As.reverse ++ st) (hd : decode cc pc = .ok (.invokestatic idx, 3)) (hroom : rmy.cells = 0 ∧ rmy.slots = 0 ∧ k ≤ rm.cells ∧ n ≤ rm.slots ∧ rmy.frames + 1 ≤ rm.frames ∧ 8 + (Ly + 11) + rmy.locals ≤ rm.locals) (hcat : (st.map fun v => v.category).sum ≤ 8) (K : V E nL k n w (pc + 3) ls (.int v :: st)) : V E nL k n w pc ls st0 :=
  r_callSi C h hl hm hst hd hroom.2.2.2.2 ⟨by rw [hroom.1]; exact hroom.2.2.1, by rw [hroom.2.1]; exact hroom.2.2.2.1⟩ hcat (fun r h => by rw [h, hroom.1, hroom.2.1]; exact K)
theorem S_cQl {v : Int64} (C : CxOk E own cc nL G rm) (h : Cl G y b Ly rmy (fun _ : Unit => []) () As (fun r _ => r = v)) (hl : Cond.methodLink own idx y ∈ lw_all) (hm : Ms y b Ly (some .long) As.length) (hst : st0 = As.reverse ++ st) (hd : decode cc pc = .ok (.invokestatic idx, 3)) (hroom : rmy.cells = 0 ∧ rmy.slots = 0 ∧ k ≤ rm.cells ∧ n ≤ rm.slots ∧ rmy.frames + 1 ≤ rm.frames ∧ 8 + (Ly + 11) + rmy.locals ≤ rm.locals) (hcat : (st.map fun v => v.category).sum ≤ 8) (K : V E nL k n w (pc + 3) ls (.long v :: st)) : V E nL k n w pc ls st0 :=
  r_callSl C h hl hm hst hd hroom.2.2.2.2 ⟨by rw [hroom.1]; exact hroom.2.2.1, by rw [hroom.2.1]; exact hroom.2.2.2.1⟩ hcat (fun r h => by rw [h, hroom.1, hroom.2.1]; exact K)
theorem X_mmax {x y : Int32} (C : CxOk E RX0 cc nL G rm) (hd : decode cc pc = .ok (.invokestatic 219, 3)) (hroom : k ≤ rm.cells ∧ n ≤ rm.slots ∧ 1 ≤ rm.frames ∧ 21 ≤ rm.locals) (hcat : (st.map fun v => v.category).sum ≤ 8) (K : V E nL k n w (pc + 3) ls (.int (if x < y then y else x) :: st)) : V E nL k n w pc ls (.int y :: .int x :: st) := by
  obtain ⟨p, l, e, R, s, m, args, below, meth, c, Q, A, G'⟩ := E
  obtain ⟨hx, hb, hml, hown, hts, hK, hA, hlk, rfl, hGG, hW0⟩ := C
  subst G'
  exact fun H locs arr hP hD hS hl => va_mmax hx hb (hml.trans hl.1.symm) hown (hts _ q534) (hts _ q535) (hts _ q84) (hts _ q536) hroom.2.2.1 (by omega) hroom.1 hroom.2.1 hd (K H locs arr hP hD hS hl)
theorem X_mmin {x y : Int32} (C : CxOk E RX0 cc nL G rm) (hd : decode cc pc = .ok (.invokestatic 214, 3)) (hroom : k ≤ rm.cells ∧ n ≤ rm.slots ∧ 1 ≤ rm.frames ∧ 21 ≤ rm.locals) (hcat : (st.map fun v => v.category).sum ≤ 8) (K : V E nL k n w (pc + 3) ls (.int (if y < x then y else x) :: st)) : V E nL k n w pc ls (.int y :: .int x :: st) := by
  obtain ⟨p, l, e, R, s, m, args, below, meth, c, Q, A, G'⟩ := E
  obtain ⟨hx, hb, hml, hown, hts, hK, hA, hlk, rfl, hGG, hW0⟩ := C
  subst G'
  exact fun H locs arr hP hD hS hl => va_mmin hx hb (hml.trans hl.1.symm) hown (hts _ q531) (hts _ q532) (hts _ q84) (hts _ q533) hroom.2.2.1 (by omega) hroom.1 hroom.2.1 hd (K H locs arr hP hD hS hl)
end VD
