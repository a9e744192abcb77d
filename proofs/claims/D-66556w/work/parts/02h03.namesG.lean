set_option maxRecDepth 100000
theorem dL_law_799 : decode cL_law 799 = .ok (.laload, 1) := by decide +kernel
theorem dL_law_800 : decode cL_law 800 = .ok (.iload 6, 2) := by decide +kernel
theorem dL_law_802 : decode cL_law 802 = .ok (.i2l, 1) := by decide +kernel
theorem dL_law_803 : decode cL_law 803 = .ok (.lcmp, 1) := by decide +kernel
theorem dL_law_804 : decode cL_law 804 = .ok (.ifCond .eq 5, 3) := by decide +kernel
theorem dL_law_807 : decode cL_law 807 = .ok (.iconst 0, 1) := by decide +kernel
theorem dL_law_808 : decode cL_law 808 = .ok (.ireturn, 1) := by decide +kernel
theorem dL_law_809 : decode cL_law 809 = .ok (.goto 645, 3) := by decide +kernel
theorem dL_law_812 : decode cL_law 812 = .ok (.aload_n 1, 1) := by decide +kernel
theorem dL_law_813 : decode cL_law 813 = .ok (.invokevirtual 131, 3) := by decide +kernel
theorem dL_law_816 : decode cL_law 816 = .ok (.aload_n 2, 1) := by decide +kernel
theorem dL_law_817 : decode cL_law 817 = .ok (.invokevirtual 134, 3) := by decide +kernel
theorem dL_law_820 : decode cL_law 820 = .ok (.goto 634, 3) := by decide +kernel
theorem dL_law_823 : decode cL_law 823 = .ok (.aload_n 1, 1) := by decide +kernel
theorem dL_law_824 : decode cL_law 824 = .ok (.aload_n 0, 1) := by decide +kernel
theorem dL_law_825 : decode cL_law 825 = .ok (.iload 4, 2) := by decide +kernel
theorem dL_law_827 : decode cL_law 827 = .ok (.iconst 1, 1) := by decide +kernel
theorem dL_law_828 : decode cL_law 828 = .ok (.iadd, 1) := by decide +kernel
theorem dL_law_829 : decode cL_law 829 = .ok (.iaload, 1) := by decide +kernel
theorem dL_law_830 : decode cL_law 830 = .ok (.aload_n 3, 1) := by decide +kernel
theorem dL_law_831 : decode cL_law 831 = .ok (.invokestatic 135, 3) := by decide +kernel
theorem dL_law_834 : decode cL_law 834 = .ok (.istore 5, 2) := by decide +kernel
theorem dL_law_836 : decode cL_law 836 = .ok (.aload_n 2, 1) := by decide +kernel
theorem dL_law_837 : decode cL_law 837 = .ok (.aload_n 0, 1) := by decide +kernel
theorem dL_law_838 : decode cL_law 838 = .ok (.iload 4, 2) := by decide +kernel
theorem dL_law_840 : decode cL_law 840 = .ok (.iconst 1, 1) := by decide +kernel
theorem dL_law_841 : decode cL_law 841 = .ok (.iadd, 1) := by decide +kernel
theorem dL_law_842 : decode cL_law 842 = .ok (.iaload, 1) := by decide +kernel
theorem dL_law_843 : decode cL_law 843 = .ok (.invokevirtual 137, 3) := by decide +kernel
theorem dL_law_846 : decode cL_law 846 = .ok (.istore 6, 2) := by decide +kernel
theorem dL_law_848 : decode cL_law 848 = .ok (.aload_n 2, 1) := by decide +kernel
theorem dL_law_849 : decode cL_law 849 = .ok (.invokevirtual 94, 3) := by decide +kernel
theorem dL_law_852 : decode cL_law 852 = .ok (.iload 5, 2) := by decide +kernel
theorem dL_law_854 : decode cL_law 854 = .ok (.if_icmp .eq 5, 3) := by decide +kernel
theorem dL_law_857 : decode cL_law 857 = .ok (.iconst 0, 1) := by decide +kernel
theorem dL_law_858 : decode cL_law 858 = .ok (.ireturn, 1) := by decide +kernel
theorem dL_law_859 : decode cL_law 859 = .ok (.iload 5, 2) := by decide +kernel
theorem dL_law_861 : decode cL_law 861 = .ok (.ifCond .ne 15, 3) := by decide +kernel
theorem dL_law_864 : decode cL_law 864 = .ok (.aload_n 3, 1) := by decide +kernel
theorem dL_law_865 : decode cL_law 865 = .ok (.iconst 0, 1) := by decide +kernel
theorem dL_law_866 : decode cL_law 866 = .ok (.laload, 1) := by decide +kernel
theorem dL_law_867 : decode cL_law 867 = .ok (.iload 6, 2) := by decide +kernel
theorem dL_law_869 : decode cL_law 869 = .ok (.i2l, 1) := by decide +kernel
theorem dL_law_870 : decode cL_law 870 = .ok (.lcmp, 1) := by decide +kernel
theorem dL_law_871 : decode cL_law 871 = .ok (.ifCond .eq 5, 3) := by decide +kernel
theorem dL_law_874 : decode cL_law 874 = .ok (.iconst 0, 1) := by decide +kernel
theorem dL_law_875 : decode cL_law 875 = .ok (.ireturn, 1) := by decide +kernel
theorem dL_law_876 : decode cL_law 876 = .ok (.goto 578, 3) := by decide +kernel
theorem dL_law_879 : decode cL_law 879 = .ok (.aload_n 1, 1) := by decide +kernel
theorem dL_law_880 : decode cL_law 880 = .ok (.aload_n 0, 1) := by decide +kernel
theorem dL_law_881 : decode cL_law 881 = .ok (.iload 4, 2) := by decide +kernel
theorem dL_law_883 : decode cL_law 883 = .ok (.iconst 1, 1) := by decide +kernel
theorem dL_law_884 : decode cL_law 884 = .ok (.iadd, 1) := by decide +kernel
theorem dL_law_885 : decode cL_law 885 = .ok (.iaload, 1) := by decide +kernel
theorem dL_law_886 : decode cL_law 886 = .ok (.aload_n 0, 1) := by decide +kernel
theorem dL_law_887 : decode cL_law 887 = .ok (.iload 4, 2) := by decide +kernel
theorem dL_law_889 : decode cL_law 889 = .ok (.iconst 2, 1) := by decide +kernel
theorem dL_law_890 : decode cL_law 890 = .ok (.iadd, 1) := by decide +kernel
theorem dL_law_891 : decode cL_law 891 = .ok (.iaload, 1) := by decide +kernel
theorem dL_law_892 : decode cL_law 892 = .ok (.aload_n 3, 1) := by decide +kernel
theorem dL_law_893 : decode cL_law 893 = .ok (.invokestatic 138, 3) := by decide +kernel
theorem dL_law_896 : decode cL_law 896 = .ok (.istore 5, 2) := by decide +kernel
theorem dL_law_898 : decode cL_law 898 = .ok (.aload_n 2, 1) := by decide +kernel
theorem dL_law_899 : decode cL_law 899 = .ok (.aload_n 0, 1) := by decide +kernel
theorem dL_law_900 : decode cL_law 900 = .ok (.iload 4, 2) := by decide +kernel
theorem dL_law_902 : decode cL_law 902 = .ok (.iconst 1, 1) := by decide +kernel
theorem dL_law_903 : decode cL_law 903 = .ok (.iadd, 1) := by decide +kernel
theorem dL_law_904 : decode cL_law 904 = .ok (.iaload, 1) := by decide +kernel
theorem dL_law_905 : decode cL_law 905 = .ok (.aload_n 0, 1) := by decide +kernel
theorem dL_law_906 : decode cL_law 906 = .ok (.iload 4, 2) := by decide +kernel
theorem dL_law_908 : decode cL_law 908 = .ok (.iconst 2, 1) := by decide +kernel
theorem dL_law_909 : decode cL_law 909 = .ok (.iadd, 1) := by decide +kernel
theorem dL_law_910 : decode cL_law 910 = .ok (.iaload, 1) := by decide +kernel
theorem dL_law_911 : decode cL_law 911 = .ok (.invokevirtual 140, 3) := by decide +kernel
theorem dL_law_914 : decode cL_law 914 = .ok (.istore 6, 2) := by decide +kernel
theorem dL_law_916 : decode cL_law 916 = .ok (.aload_n 2, 1) := by decide +kernel
theorem dL_law_917 : decode cL_law 917 = .ok (.invokevirtual 94, 3) := by decide +kernel
theorem dL_law_920 : decode cL_law 920 = .ok (.iload 5, 2) := by decide +kernel
theorem dL_law_922 : decode cL_law 922 = .ok (.if_icmp .eq 5, 3) := by decide +kernel
theorem dL_law_925 : decode cL_law 925 = .ok (.iconst 0, 1) := by decide +kernel
theorem dL_law_926 : decode cL_law 926 = .ok (.ireturn, 1) := by decide +kernel
theorem dL_law_927 : decode cL_law 927 = .ok (.iload 5, 2) := by decide +kernel
theorem dL_law_929 : decode cL_law 929 = .ok (.ifCond .ne 15, 3) := by decide +kernel
theorem dL_law_932 : decode cL_law 932 = .ok (.aload_n 3, 1) := by decide +kernel
theorem dL_law_933 : decode cL_law 933 = .ok (.iconst 0, 1) := by decide +kernel
theorem dL_law_934 : decode cL_law 934 = .ok (.laload, 1) := by decide +kernel
theorem dL_law_935 : decode cL_law 935 = .ok (.iload 6, 2) := by decide +kernel
theorem dL_law_937 : decode cL_law 937 = .ok (.i2l, 1) := by decide +kernel
theorem dL_law_938 : decode cL_law 938 = .ok (.lcmp, 1) := by decide +kernel
theorem dL_law_939 : decode cL_law 939 = .ok (.ifCond .eq 5, 3) := by decide +kernel
theorem dL_law_942 : decode cL_law 942 = .ok (.iconst 0, 1) := by decide +kernel
theorem dL_law_943 : decode cL_law 943 = .ok (.ireturn, 1) := by decide +kernel
theorem dL_law_944 : decode cL_law 944 = .ok (.goto 510, 3) := by decide +kernel
theorem dL_law_947 : decode cL_law 947 = .ok (.aload_n 1, 1) := by decide +kernel
theorem dL_law_948 : decode cL_law 948 = .ok (.aload_n 0, 1) := by decide +kernel
theorem dL_law_949 : decode cL_law 949 = .ok (.iload 4, 2) := by decide +kernel
theorem dL_law_951 : decode cL_law 951 = .ok (.iconst 1, 1) := by decide +kernel
theorem dL_law_952 : decode cL_law 952 = .ok (.iadd, 1) := by decide +kernel
theorem dL_law_953 : decode cL_law 953 = .ok (.iaload, 1) := by decide +kernel
theorem dL_law_954 : decode cL_law 954 = .ok (.aload_n 0, 1) := by decide +kernel
theorem dL_law_955 : decode cL_law 955 = .ok (.iload 4, 2) := by decide +kernel
theorem dL_law_957 : decode cL_law 957 = .ok (.iconst 2, 1) := by decide +kernel
theorem dL_law_958 : decode cL_law 958 = .ok (.iadd, 1) := by decide +kernel
theorem dL_law_959 : decode cL_law 959 = .ok (.iaload, 1) := by decide +kernel
theorem dL_law_960 : decode cL_law 960 = .ok (.aload_n 3, 1) := by decide +kernel
theorem dL_law_961 : decode cL_law 961 = .ok (.invokestatic 141, 3) := by decide +kernel
theorem dL_law_964 : decode cL_law 964 = .ok (.istore 5, 2) := by decide +kernel
theorem dL_law_966 : decode cL_law 966 = .ok (.aload_n 2, 1) := by decide +kernel
theorem dL_law_967 : decode cL_law 967 = .ok (.aload_n 0, 1) := by decide +kernel
theorem dL_law_968 : decode cL_law 968 = .ok (.iload 4, 2) := by decide +kernel
theorem dL_law_970 : decode cL_law 970 = .ok (.iconst 1, 1) := by decide +kernel
theorem dL_law_971 : decode cL_law 971 = .ok (.iadd, 1) := by decide +kernel
theorem dL_law_972 : decode cL_law 972 = .ok (.iaload, 1) := by decide +kernel
theorem dL_law_973 : decode cL_law 973 = .ok (.aload_n 0, 1) := by decide +kernel
theorem dL_law_974 : decode cL_law 974 = .ok (.iload 4, 2) := by decide +kernel
theorem dL_law_976 : decode cL_law 976 = .ok (.iconst 2, 1) := by decide +kernel
theorem dL_law_977 : decode cL_law 977 = .ok (.iadd, 1) := by decide +kernel
theorem dL_law_978 : decode cL_law 978 = .ok (.iaload, 1) := by decide +kernel
theorem dL_law_979 : decode cL_law 979 = .ok (.invokevirtual 143, 3) := by decide +kernel
theorem dL_law_982 : decode cL_law 982 = .ok (.istore 6, 2) := by decide +kernel
theorem dL_law_984 : decode cL_law 984 = .ok (.aload_n 2, 1) := by decide +kernel
theorem dL_law_985 : decode cL_law 985 = .ok (.invokevirtual 94, 3) := by decide +kernel
theorem dL_law_988 : decode cL_law 988 = .ok (.iload 5, 2) := by decide +kernel
theorem dL_law_990 : decode cL_law 990 = .ok (.if_icmp .eq 5, 3) := by decide +kernel
theorem dL_law_993 : decode cL_law 993 = .ok (.iconst 0, 1) := by decide +kernel
theorem dL_law_994 : decode cL_law 994 = .ok (.ireturn, 1) := by decide +kernel
theorem dL_law_995 : decode cL_law 995 = .ok (.iload 5, 2) := by decide +kernel
theorem dL_law_997 : decode cL_law 997 = .ok (.ifCond .ne 15, 3) := by decide +kernel
theorem dL_law_1000 : decode cL_law 1000 = .ok (.aload_n 3, 1) := by decide +kernel
theorem dL_law_1001 : decode cL_law 1001 = .ok (.iconst 0, 1) := by decide +kernel
theorem dL_law_1002 : decode cL_law 1002 = .ok (.laload, 1) := by decide +kernel
theorem dL_law_1003 : decode cL_law 1003 = .ok (.iload 6, 2) := by decide +kernel
theorem dL_law_1005 : decode cL_law 1005 = .ok (.i2l, 1) := by decide +kernel
theorem dL_law_1006 : decode cL_law 1006 = .ok (.lcmp, 1) := by decide +kernel
theorem dL_law_1007 : decode cL_law 1007 = .ok (.ifCond .eq 5, 3) := by decide +kernel
theorem dL_law_1010 : decode cL_law 1010 = .ok (.iconst 0, 1) := by decide +kernel
theorem dL_law_1011 : decode cL_law 1011 = .ok (.ireturn, 1) := by decide +kernel
theorem dL_law_1012 : decode cL_law 1012 = .ok (.goto 442, 3) := by decide +kernel
theorem dL_law_1015 : decode cL_law 1015 = .ok (.aload_n 1, 1) := by decide +kernel
theorem dL_law_1016 : decode cL_law 1016 = .ok (.aload_n 0, 1) := by decide +kernel
theorem dL_law_1017 : decode cL_law 1017 = .ok (.iload 4, 2) := by decide +kernel
theorem dL_law_1019 : decode cL_law 1019 = .ok (.iconst 1, 1) := by decide +kernel
theorem dL_law_1020 : decode cL_law 1020 = .ok (.iadd, 1) := by decide +kernel
theorem dL_law_1021 : decode cL_law 1021 = .ok (.iaload, 1) := by decide +kernel
theorem dL_law_1022 : decode cL_law 1022 = .ok (.aload_n 0, 1) := by decide +kernel
theorem dL_law_1023 : decode cL_law 1023 = .ok (.iload 4, 2) := by decide +kernel
theorem dL_law_1025 : decode cL_law 1025 = .ok (.iconst 2, 1) := by decide +kernel
theorem dL_law_1026 : decode cL_law 1026 = .ok (.iadd, 1) := by decide +kernel
theorem dL_law_1027 : decode cL_law 1027 = .ok (.iaload, 1) := by decide +kernel
theorem dL_law_1028 : decode cL_law 1028 = .ok (.aload_n 3, 1) := by decide +kernel
